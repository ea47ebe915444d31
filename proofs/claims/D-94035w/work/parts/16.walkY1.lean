set_option maxRecDepth 100000
section WALK
variable {l : Launch} {E : VE} {X : VX} {b : Nat → Nat}
/-! X0_addedBy -/
abbrev r_X0_addedBy : Room := { frames := 208, cells := 11868, slots := 59100, locals := 8275 }
theorem n_X0_addedBy : vdn yX0_addedBy 3 := ⟨by decide +kernel, by decide +kernel, by decide +kernel⟩
def w_X0_addedBy_190 (post : (Int32) → (AH) → Prop) (k55 : (Int32) → (Int32) → (AH) → (Nat) → (Nat) → Prop) (k111 : (Int32) → (Int32) → (Option Nat) → (Int32) → (Int32) → (AH) → (Nat) → (Nat) → Prop) (b0 : Nat) (x1 : Option Nat) (x2 : Int32) (x3 : Int32) (x4 : Int32) (x5 : Int32) (x6 : Option Nat) (x8 : Int32) (s0 : Int32) (h : AH) (k : Nat) (n : Nat) : Prop :=
 (∀ z_1 : Int32, z_1 = x8 + (nI 1) → (k111 x4 x5 x6 s0 z_1 h k n))
def w_X0_addedBy_185 (post : (Int32) → (AH) → Prop) (k55 : (Int32) → (Int32) → (AH) → (Nat) → (Nat) → Prop) (k111 : (Int32) → (Int32) → (Option Nat) → (Int32) → (Int32) → (AH) → (Nat) → (Nat) → Prop) (b0 : Nat) (x1 : Option Nat) (x2 : Int32) (x3 : Int32) (x4 : Int32) (x5 : Int32) (x6 : Option Nat) (x8 : Int32) (h : AH) (k : Nat) (n : Nat) : Prop :=
 (w_X0_addedBy_190 post k55 k111 b0 x1 x2 x3 x4 x5 x6 x8 (nI 1) h k n)
def w_X0_addedBy_218 (post : (Int32) → (AH) → Prop) (k55 : (Int32) → (Int32) → (AH) → (Nat) → (Nat) → Prop) (b0 : Nat) (x1 : Option Nat) (x2 : Int32) (x3 : Int32) (x4 : Int32) (x5 : Int32) (h : AH) (k : Nat) (n : Nat) : Prop :=
 (∀ z_2 : Int32, z_2 = x5 + (nI 1) → (k55 x4 z_2 h k n))
def w_X0_addedBy_198 (post : (Int32) → (AH) → Prop) (k55 : (Int32) → (Int32) → (AH) → (Nat) → (Nat) → Prop) (b0 : Nat) (x1 : Option Nat) (x2 : Int32) (x3 : Int32) (x4 : Int32) (x5 : Int32) (x7 : Int32) (h : AH) (k : Nat) (n : Nat) : Prop :=
 ((¬ x7 = 0 → ((¬ x4 = x3 → (∀ z_11 : Int32, z_11 = x4 + (nI 1) → (w_X0_addedBy_218 post k55 b0 x1 x2 x3 z_11 x5 h k n))) ∧ (x4 = x3 → (post x5 h)))) ∧ (x7 = 0 → (w_X0_addedBy_218 post k55 b0 x1 x2 x3 x4 x5 h k n)))
def w_X0_addedBy_111 (post : (Int32) → (AH) → Prop) (k55 : (Int32) → (Int32) → (AH) → (Nat) → (Nat) → Prop) (b0 : Nat) (x1 : Option Nat) (x2 : Int32) (x3 : Int32) : Nat → (Int32) → (Int32) → (Option Nat) → (Int32) → (Int32) → (AH) → (Nat) → (Nat) → Prop
 | 0, _, _, _, _, _, _, _, _ => False
 | n0 + 1, x4, x5, x6, x7, x8, h, k, n =>
 (∃ a_12 : Nat, x1 = some a_12 ∧ (∃ (fs_13 : List Value) (r_16 : Option Nat), h a_12 = some (.inr (8, fs_13)) ∧ fs_13[4]? = some (va_rf r_16) ∧ (∃ a_17 : Nat, r_16 = some a_17 ∧ (∃ fs_91 : List Value, h a_17 = some (.inr (2, fs_91)) ∧ (w_J2_size (fun (z_18 : Int32) => ((z_18 ≤ x8 → (w_X0_addedBy_198 post k55 b0 x1 x2 x3 x4 x5 x7 h k n)) ∧ (¬ z_18 ≤ x8 → ((¬ x7 = 0 → (w_X0_addedBy_198 post k55 b0 x1 x2 x3 x4 x5 x7 h k n)) ∧ (x7 = 0 → (∃ a_27 : Nat, x6 = some a_27 ∧ (∃ (fs_28 : List Value) (r_31 : Option Nat), h a_27 = some (.inr (10, fs_28)) ∧ fs_28[0]? = some (va_rf r_31) ∧ (∃ (fs_32 : List Value) (r_35 : Option Nat), h a_12 = some (.inr (8, fs_32)) ∧ fs_32[4]? = some (va_rf r_35) ∧ (∃ a_36 : Nat, r_35 = some a_36 ∧ (∃ fs_89 : List Value, h a_36 = some (.inr (2, fs_89)) ∧ (w_J2_get (fun (r_37 : Option Nat) => (∃ a_38 : Nat, r_37 = some a_38 ∧ (∃ fs_39 : List Value, h a_38 = some (.inr (9, fs_39)) ∧ (∃ fs_87 : List Value, h b0 = some (.inr (0, fs_87)) ∧ (w_X0_likeness (fun (z_41 : Int32) (h_42 : AH) => (∃ (fs_43 : List Value) (r_46 : Option Nat), h_42 b0 = some (.inr (0, fs_43)) ∧ fs_43[1]? = some (va_rf r_46) ∧ (∃ a_47 : Nat, r_46 = some a_47 ∧ (∃ (fs_48 : List Value) (z_51 : Int32), h_42 a_47 = some (.inr (1, fs_48)) ∧ fs_48[1]? = some (.int z_51) ∧ ((z_51 ≤ z_41 → (w_X0_addedBy_185 post k55 (fun (q0 : Int32) (q1 : Int32) (q2 : Option Nat) (q3 : Int32) (q4 : Int32) (q5 : AH) (q6 : Nat) (q7 : Nat) => w_X0_addedBy_111 post k55 b0 x1 x2 x3 n0 q0 q1 q2 q3 q4 q5 q6 q7) b0 x1 x2 x3 x4 x5 (some a_27) x8 h_42 k n)) ∧ (¬ z_51 ≤ z_41 → (∃ (fs_56 : List Value) (r_59 : Option Nat), h_42 a_27 = some (.inr (10, fs_56)) ∧ fs_56[0]? = some (va_rf r_59) ∧ (∃ (fs_60 : List Value) (r_63 : Option Nat), h_42 b0 = some (.inr (0, fs_60)) ∧ fs_60[15]? = some (va_rf r_63) ∧ (∃ a_64 : Nat, r_63 = some a_64 ∧ (∃ (N_65 : Nat) (g_66 : Nat → Option Nat), h_42 a_64 = some (.inl (6, N_65, .inr (.inr (.inr (.inr g_66))))) ∧ vp_in x8 N_65 ∧ ∀ r_69 : Option Nat, r_69 = g_66 (x8).toNatClampNeg → (∃ fs_85 : List Value, h_42 b0 = some (.inr (0, fs_85)) ∧ (w_X0_likeness (fun (z_70 : Int32) (h_71 : AH) => (∃ (fs_72 : List Value) (r_75 : Option Nat), h_71 b0 = some (.inr (0, fs_72)) ∧ fs_72[1]? = some (va_rf r_75) ∧ (∃ a_76 : Nat, r_75 = some a_76 ∧ (∃ (fs_77 : List Value) (z_80 : Int32), h_71 a_76 = some (.inr (1, fs_77)) ∧ fs_77[1]? = some (.int z_80) ∧ ((z_70 < z_80 → (w_X0_addedBy_190 post k55 (fun (q0 : Int32) (q1 : Int32) (q2 : Option Nat) (q3 : Int32) (q4 : Int32) (q5 : AH) (q6 : Nat) (q7 : Nat) => w_X0_addedBy_111 post k55 b0 x1 x2 x3 n0 q0 q1 q2 q3 q4 q5 q6 q7) b0 x1 x2 x3 x4 x5 (some a_27) x8 (nI 0) h_71 k n)) ∧ (¬ z_70 < z_80 → (w_X0_addedBy_185 post k55 (fun (q0 : Int32) (q1 : Int32) (q2 : Option Nat) (q3 : Int32) (q4 : Int32) (q5 : AH) (q6 : Nat) (q7 : Nat) => w_X0_addedBy_111 post k55 b0 x1 x2 x3 n0 q0 q1 q2 q3 q4 q5 q6 q7) b0 x1 x2 x3 x4 x5 (some a_27) x8 h_71 k n))))))) b0 r_59 r_69 h_42)))))))))))) b0 r_31 (some a_38) h))))) a_36 x8 h))))))))))) a_17 h)))))
def w_X0_addedBy_55 (post : (Int32) → (AH) → Prop) (b0 : Nat) (x1 : Option Nat) (x2 : Int32) (x3 : Int32) : Nat → (Int32) → (Int32) → (AH) → (Nat) → (Nat) → Prop
 | 0, _, _, _, _, _ => False
 | n0 + 1, x4, x5, h, k, n =>
 (∃ (fs_93 : List Value) (r_96 : Option Nat), h b0 = some (.inr (0, fs_93)) ∧ fs_93[1]? = some (va_rf r_96) ∧ (∃ a_97 : Nat, r_96 = some a_97 ∧ (∃ (fs_98 : List Value) (r_101 : Option Nat), h a_97 = some (.inr (1, fs_98)) ∧ fs_98[5]? = some (va_rf r_101) ∧ (∃ a_102 : Nat, r_101 = some a_102 ∧ (∃ fs_141 : List Value, h a_102 = some (.inr (2, fs_141)) ∧ (w_J2_size (fun (z_103 : Int32) => ((z_103 ≤ x5 → ((¬ x3 = (-1) → (post (-1) h)) ∧ (x3 = (-1) → (post x4 h)))) ∧ (¬ z_103 ≤ x5 → (∃ (fs_112 : List Value) (r_115 : Option Nat), h b0 = some (.inr (0, fs_112)) ∧ fs_112[1]? = some (va_rf r_115) ∧ (∃ a_116 : Nat, r_115 = some a_116 ∧ (∃ (fs_117 : List Value) (r_120 : Option Nat), h a_116 = some (.inr (1, fs_117)) ∧ fs_117[5]? = some (va_rf r_120) ∧ (∃ a_121 : Nat, r_120 = some a_121 ∧ (∃ fs_139 : List Value, h a_121 = some (.inr (2, fs_139)) ∧ (w_J2_get (fun (r_122 : Option Nat) => (∃ a_123 : Nat, r_122 = some a_123 ∧ (∃ fs_124 : List Value, h a_123 = some (.inr (10, fs_124)) ∧ (∃ fs_137 : List Value, h b0 = some (.inr (0, fs_137)) ∧ (k + 1 ≤ 11868 ∧ n + 1 ≤ 59100 ∧ (w_X0_comes (fun (r_126 : Option Nat) (h_127 : AH) => (∃ a_128 : Nat, r_126 = some a_128 ∧ (w_Kind (fun (z_129 : Int32) => (((nI 3) ≤ z_129 → (∃ n1 : Nat, (w_X0_addedBy_111 post (fun (q0 : Int32) (q1 : Int32) (q2 : AH) (q3 : Nat) (q4 : Nat) => w_X0_addedBy_55 post b0 x1 x2 x3 n0 q0 q1 q2 q3 q4) b0 x1 x2 x3 n1 x4 x5 (some a_123) (nI 0) (nI 0) h_127 (k + 1) (n + 1)))) ∧ (¬ (nI 3) ≤ z_129 → (w_X0_addedBy_218 post (fun (q0 : Int32) (q1 : Int32) (q2 : AH) (q3 : Nat) (q4 : Nat) => w_X0_addedBy_55 post b0 x1 x2 x3 n0 q0 q1 q2 q3 q4) b0 x1 x2 x3 x4 x5 h_127 (k + 1) (n + 1))))) a_128 h_127))) b0 (some a_123) h)))))) a_121 x5 h))))))))) a_102 h))))))
def w_X0_addedBy_7 (post : (Int32) → (AH) → Prop) (b0 : Nat) (x1 : Option Nat) (x2 : Int32) (x3 : Int32) : Nat → (Int32) → (AH) → (Nat) → (Nat) → Prop
 | 0, _, _, _, _ => False
 | n0 + 1, x4, h, k, n =>
 (∃ a_143 : Nat, x1 = some a_143 ∧ (∃ (fs_144 : List Value) (r_147 : Option Nat), h a_143 = some (.inr (8, fs_144)) ∧ fs_144[4]? = some (va_rf r_147) ∧ (∃ a_148 : Nat, r_147 = some a_148 ∧ (∃ fs_188 : List Value, h a_148 = some (.inr (2, fs_188)) ∧ (w_J2_size (fun (z_149 : Int32) => ((z_149 ≤ x4 → (∃ n1 : Nat, (w_X0_addedBy_55 post b0 x1 x2 x3 n1 (nI 0) (nI 0) h k n))) ∧ (¬ z_149 ≤ x4 → (∃ (fs_155 : List Value) (r_158 : Option Nat), h b0 = some (.inr (0, fs_155)) ∧ fs_155[15]? = some (va_rf r_158) ∧ (∃ (fs_159 : List Value) (r_162 : Option Nat), h a_143 = some (.inr (8, fs_159)) ∧ fs_159[4]? = some (va_rf r_162) ∧ (∃ a_163 : Nat, r_162 = some a_163 ∧ (∃ fs_186 : List Value, h a_163 = some (.inr (2, fs_186)) ∧ (w_J2_get (fun (r_164 : Option Nat) => (∃ a_165 : Nat, r_164 = some a_165 ∧ (∃ fs_166 : List Value, h a_165 = some (.inr (9, fs_166)) ∧ (∃ fs_184 : List Value, h b0 = some (.inr (0, fs_184)) ∧ (k + 24 ≤ 11868 ∧ n + 120 ≤ 59100 ∧ (w_X0_smooths (fun (r_168 : Option Nat) (h_169 : AH) => (∃ a_170 : Nat, r_158 = some a_170 ∧ (∃ a_176 : Nat, r_168 = some a_176 ∧ (∃ fs_177 : List Value, h_169 a_176 = some (.inr (9, fs_177)) ∧ ∃ (N_171 : Nat) (g_172 : Nat → Option Nat), h_169 a_170 = (some (.inl (6, N_171, .inr (.inr (.inr (.inr g_172)))))) ∧ vp_in x4 N_171 ∧ ∀ h_175 : AH, h_175 = va_up h_169 a_170 (some (.inl (6, N_171, .inr (.inr (.inr (.inr (va_up g_172 (x4).toNatClampNeg (some a_176)))))))) → (∀ z_181 : Int32, z_181 = x4 + (nI 1) → (w_X0_addedBy_7 post b0 x1 x2 x3 n0 z_181 h_175 (k + 24) (n + 120))))))) b0 (some a_165) x2 h)))))) a_163 x4 h)))))))) a_148 h)))))
def w_X0_addedBy (post : (Int32) → (AH) → Prop) (b0 : Nat) (x1 : Option Nat) (x2 : Int32) (x3 : Int32) (h : AH) : Prop :=
 (∃ fs_194 : List Value, h b0 = some (.inr (0, fs_194)) ∧ (0 + 11520 ≤ 11868 ∧ 0 + 57600 ≤ 59100 ∧ (w_X0_laySmooth (fun (h_190 : AH) => (∃ n1 : Nat, (w_X0_addedBy_7 post b0 x1 x2 x3 n1 (nI 0) h_190 (0 + 11520) (0 + 57600)))) b0 h)))
theorem b_X0_addedBy_190 {post : (Int32) → (AH) → Prop}   {b0 : Nat} {x1 : Option Nat} {x2 : Int32} {x3 : Int32} {k55 : (Int32) → (Int32) → (AH) → (Nat) → (Nat) → Prop} {k111 : (Int32) → (Int32) → (Option Nat) → (Int32) → (Int32) → (AH) → (Nat) → (Nat) → Prop}  (hk55 : ∀ (x4 : Int32) (x5 : Int32) (h : AH) (k : Nat) (n : Nat), k55 x4 x5 h k n → VV l E X cX0_addedBy RX0 "addedBy" 9 r_X0_addedBy (some .int) (vpi (fun (r : Int32) (h' : AH) => post r h')) h k n 55 [(0, va_rf (some b0)), (1, va_rf x1), (2, .int x2), (3, .int x3), (4, .int x4), (5, .int x5)] []) (hk111 : ∀ (x4 : Int32) (x5 : Int32) (x6 : Option Nat) (x7 : Int32) (x8 : Int32) (h : AH) (k : Nat) (n : Nat), k111 x4 x5 x6 x7 x8 h k n → VV l E X cX0_addedBy RX0 "addedBy" 9 r_X0_addedBy (some .int) (vpi (fun (r : Int32) (h' : AH) => post r h')) h k n 111 [(0, va_rf (some b0)), (1, va_rf x1), (2, .int x2), (3, .int x3), (4, .int x4), (5, .int x5), (6, va_rf x6), (7, .int x7), (8, .int x8)] []) (x4 : Int32) (x5 : Int32) (x6 : Option Nat) (x8 : Int32) (s0 : Int32) (h : AH) (k : Nat) (n : Nat) (hw : w_X0_addedBy_190 post k55 k111 b0 x1 x2 x3 x4 x5 x6 x8 s0 h k n) : VV l E X cX0_addedBy RX0 "addedBy" 9 r_X0_addedBy (some .int) (vpi (fun (r : Int32) (h' : AH) => post r h')) h k n 190 [(0, va_rf (some b0)), (1, va_rf x1), (2, .int x2), (3, .int x3), (4, .int x4), (5, .int x5), (6, va_rf x6), (8, .int x8)] [.int s0] := by
  refine v_istore (lv1 := [(7, .int s0), (0, va_rf (some b0)), (1, va_rf x1), (2, .int x2), (3, .int x3), (4, .int x4), (5, .int x5), (6, va_rf x6), (8, .int x8)]) dX0_addedBy_190 (Nat.le_of_ble_eq_true rfl) (by cases x6 <;> rfl) ?_
  obtain ⟨z_1, e_1⟩ : ∃ z9 : Int32, z9 = x8 + (nI 1) := ⟨_, rfl⟩
  replace hw := hw z_1 e_1
  refine v_iinc (q := 8) (v := z_1) (lv1 := [(8, .int z_1), (7, .int s0), (0, va_rf (some b0)), (1, va_rf x1), (2, .int x2), (3, .int x3), (4, .int x4), (5, .int x5), (6, va_rf x6)]) dX0_addedBy_192 rfl (by rw [e_1, ic_1]) (Nat.le_of_ble_eq_true rfl) rfl ?_
  refine v_goto (tgt := 111) dX0_addedBy_195 (by decide) ?_
  refine v_sub [2, 3, 4, 5, 6, 7, 8, 1, 0] rfl ?_
  exact hk111 x4 x5 x6 s0 z_1 h k n hw
theorem b_X0_addedBy_185 {post : (Int32) → (AH) → Prop}   {b0 : Nat} {x1 : Option Nat} {x2 : Int32} {x3 : Int32} {k55 : (Int32) → (Int32) → (AH) → (Nat) → (Nat) → Prop} {k111 : (Int32) → (Int32) → (Option Nat) → (Int32) → (Int32) → (AH) → (Nat) → (Nat) → Prop}  (hk55 : ∀ (x4 : Int32) (x5 : Int32) (h : AH) (k : Nat) (n : Nat), k55 x4 x5 h k n → VV l E X cX0_addedBy RX0 "addedBy" 9 r_X0_addedBy (some .int) (vpi (fun (r : Int32) (h' : AH) => post r h')) h k n 55 [(0, va_rf (some b0)), (1, va_rf x1), (2, .int x2), (3, .int x3), (4, .int x4), (5, .int x5)] []) (hk111 : ∀ (x4 : Int32) (x5 : Int32) (x6 : Option Nat) (x7 : Int32) (x8 : Int32) (h : AH) (k : Nat) (n : Nat), k111 x4 x5 x6 x7 x8 h k n → VV l E X cX0_addedBy RX0 "addedBy" 9 r_X0_addedBy (some .int) (vpi (fun (r : Int32) (h' : AH) => post r h')) h k n 111 [(0, va_rf (some b0)), (1, va_rf x1), (2, .int x2), (3, .int x3), (4, .int x4), (5, .int x5), (6, va_rf x6), (7, .int x7), (8, .int x8)] []) (x4 : Int32) (x5 : Int32) (x6 : Option Nat) (x8 : Int32) (h : AH) (k : Nat) (n : Nat) (hw : w_X0_addedBy_185 post k55 k111 b0 x1 x2 x3 x4 x5 x6 x8 h k n) : VV l E X cX0_addedBy RX0 "addedBy" 9 r_X0_addedBy (some .int) (vpi (fun (r : Int32) (h' : AH) => post r h')) h k n 185 [(0, va_rf (some b0)), (1, va_rf x1), (2, .int x2), (3, .int x3), (4, .int x4), (5, .int x5), (6, va_rf x6), (8, .int x8)] [] := by
  refine v_iconst dX0_addedBy_185 ic_1 ?_
  refine v_goto (tgt := 190) dX0_addedBy_186 (by decide) ?_
  refine v_sub [0, 1, 2, 3, 4, 5, 6, 7] rfl ?_
  exact b_X0_addedBy_190 hk55 hk111 x4 x5 x6 x8 (nI 1) h k n hw
theorem b_X0_addedBy_218 {post : (Int32) → (AH) → Prop}   {b0 : Nat} {x1 : Option Nat} {x2 : Int32} {x3 : Int32} {k55 : (Int32) → (Int32) → (AH) → (Nat) → (Nat) → Prop}  (hk55 : ∀ (x4 : Int32) (x5 : Int32) (h : AH) (k : Nat) (n : Nat), k55 x4 x5 h k n → VV l E X cX0_addedBy RX0 "addedBy" 9 r_X0_addedBy (some .int) (vpi (fun (r : Int32) (h' : AH) => post r h')) h k n 55 [(0, va_rf (some b0)), (1, va_rf x1), (2, .int x2), (3, .int x3), (4, .int x4), (5, .int x5)] []) (x4 : Int32) (x5 : Int32) (h : AH) (k : Nat) (n : Nat) (hw : w_X0_addedBy_218 post k55 b0 x1 x2 x3 x4 x5 h k n) : VV l E X cX0_addedBy RX0 "addedBy" 9 r_X0_addedBy (some .int) (vpi (fun (r : Int32) (h' : AH) => post r h')) h k n 218 [(0, va_rf (some b0)), (1, va_rf x1), (2, .int x2), (3, .int x3), (4, .int x4), (5, .int x5)] [] := by
  obtain ⟨z_2, e_2⟩ : ∃ z9 : Int32, z9 = x5 + (nI 1) := ⟨_, rfl⟩
  replace hw := hw z_2 e_2
  refine v_iinc (q := 5) (v := z_2) (lv1 := [(5, .int z_2), (0, va_rf (some b0)), (1, va_rf x1), (2, .int x2), (3, .int x3), (4, .int x4)]) dX0_addedBy_218 rfl (by rw [e_2, ic_1]) (Nat.le_of_ble_eq_true rfl) rfl ?_
  refine v_goto (tgt := 55) dX0_addedBy_221 (by decide) ?_
  refine v_sub [1, 2, 3, 4, 5, 0] rfl ?_
  exact hk55 x4 z_2 h k n hw
theorem b_X0_addedBy_198 {post : (Int32) → (AH) → Prop}   {b0 : Nat} {x1 : Option Nat} {x2 : Int32} {x3 : Int32} {k55 : (Int32) → (Int32) → (AH) → (Nat) → (Nat) → Prop}  (hk55 : ∀ (x4 : Int32) (x5 : Int32) (h : AH) (k : Nat) (n : Nat), k55 x4 x5 h k n → VV l E X cX0_addedBy RX0 "addedBy" 9 r_X0_addedBy (some .int) (vpi (fun (r : Int32) (h' : AH) => post r h')) h k n 55 [(0, va_rf (some b0)), (1, va_rf x1), (2, .int x2), (3, .int x3), (4, .int x4), (5, .int x5)] []) (x4 : Int32) (x5 : Int32) (x7 : Int32) (h : AH) (k : Nat) (n : Nat) (hw : w_X0_addedBy_198 post k55 b0 x1 x2 x3 x4 x5 x7 h k n) : VV l E X cX0_addedBy RX0 "addedBy" 9 r_X0_addedBy (some .int) (vpi (fun (r : Int32) (h' : AH) => post r h')) h k n 198 [(0, va_rf (some b0)), (1, va_rf x1), (2, .int x2), (3, .int x3), (4, .int x4), (5, .int x5), (7, .int x7)] [] := by
  refine v_iload (q := 6) dX0_addedBy_198 rfl ?_
  obtain ⟨hw_5, hw_6⟩ := hw
  refine v_if_ne (tgt := 206) dX0_addedBy_200 (by decide) (fun c_3 => ?_) (fun c_4 => ?_)
  · have hw := hw_5 c_3
    refine v_iload (q := 4) dX0_addedBy_206 rfl ?_
    refine v_iload_n (q := 3) dX0_addedBy_208 rfl rfl ?_
    obtain ⟨hw_9, hw_10⟩ := hw
    refine v_icmp_ne (tgt := 215) dX0_addedBy_209 (by decide) (fun c_7 => ?_) (fun c_8 => ?_)
    · have hw := hw_9 c_7
      obtain ⟨z_11, e_11⟩ : ∃ z9 : Int32, z9 = x4 + (nI 1) := ⟨_, rfl⟩
      replace hw := hw z_11 e_11
      refine v_iinc (q := 4) (v := z_11) (lv1 := [(4, .int z_11), (0, va_rf (some b0)), (1, va_rf x1), (2, .int x2), (3, .int x3), (5, .int x5), (7, .int x7)]) dX0_addedBy_215 rfl (by rw [e_11, ic_1]) (Nat.le_of_ble_eq_true rfl) rfl ?_
      refine v_sub [1, 2, 3, 4, 0, 5] rfl ?_
      exact b_X0_addedBy_218 hk55 z_11 x5 h k n hw
    · have hw := hw_10 c_8
      refine v_iload (q := 5) dX0_addedBy_212 rfl ?_
      exact v_iret dX0_addedBy_214 rfl ⟨_, rfl, hw⟩
  · have hw := hw_6 c_4
    refine v_goto (tgt := 218) dX0_addedBy_203 (by decide) ?_
    refine v_sub [0, 1, 2, 3, 4, 5] rfl ?_
    exact b_X0_addedBy_218 hk55 x4 x5 h k n hw
theorem b_X0_addedBy_111 {post : (Int32) → (AH) → Prop}   {b0 : Nat} {x1 : Option Nat} {x2 : Int32} {x3 : Int32} {k55 : (Int32) → (Int32) → (AH) → (Nat) → (Nat) → Prop}  (hk55 : ∀ (x4 : Int32) (x5 : Int32) (h : AH) (k : Nat) (n : Nat), k55 x4 x5 h k n → VV l E X cX0_addedBy RX0 "addedBy" 9 r_X0_addedBy (some .int) (vpi (fun (r : Int32) (h' : AH) => post r h')) h k n 55 [(0, va_rf (some b0)), (1, va_rf x1), (2, .int x2), (3, .int x3), (4, .int x4), (5, .int x5)] []) : ∀ (n0 : Nat) (x4 : Int32) (x5 : Int32) (x6 : Option Nat) (x7 : Int32) (x8 : Int32) (h : AH) (k : Nat) (n : Nat), w_X0_addedBy_111 post k55 b0 x1 x2 x3 n0 x4 x5 x6 x7 x8 h k n → VV l E X cX0_addedBy RX0 "addedBy" 9 r_X0_addedBy (some .int) (vpi (fun (r : Int32) (h' : AH) => post r h')) h k n 111 [(0, va_rf (some b0)), (1, va_rf x1), (2, .int x2), (3, .int x3), (4, .int x4), (5, .int x5), (6, va_rf x6), (7, .int x7), (8, .int x8)] [] := by
  intro n0
  induction n0 with
  | zero =>
    intro x4 x5 x6 x7 x8 h k n hw
    exact hw.elim
  | succ n0 ih =>
    intro x4 x5 x6 x7 x8 h k n hw
    refine v_iload (q := 8) dX0_addedBy_111 rfl ?_
    refine v_aload_n (q := 1) dX0_addedBy_113 rfl rfl ?_
    obtain ⟨a_12, ea_12, hw⟩ := hw
    subst ea_12
    obtain ⟨fs_13, r_16, e_14, e_15, hw⟩ := hw
    refine v_getN in_X7 (ci := 8) rfl 4 (Nat.le_of_ble_eq_true rfl) q433 rfl dX0_addedBy_114 e_14 e_15 ?_
    obtain ⟨a_17, ea_17, hw⟩ := hw
    subst ea_17
    obtain ⟨fs_91, e_92, hw⟩ := hw
    refine v_callV0 q413 q414 q415 q108 q416 (ci := 2) rfl e_92 n_J2_size ⟨Nat.le_of_ble_eq_true rfl, Nat.le_of_ble_eq_true rfl⟩ [] [.int x8] (met_J2_size hw) rfl (Nat.le_of_ble_eq_true rfl) rfl rfl dX0_addedBy_117 rfl (v_ki (fun z_18 h1 hv => ?_))
    clear hw
    obtain ⟨e9, hw⟩ := hv
    refine v_heap e9 ?_
    clear e9
    obtain ⟨hw_21, hw_22⟩ := hw
    refine v_icmp_ge (tgt := 198) dX0_addedBy_120 (by decide) (fun c_19 => ?_) (fun c_20 => ?_)
    · have hw := hw_21 c_19
      refine v_sub [0, 1, 2, 3, 4, 5, 7] rfl ?_
      exact b_X0_addedBy_198 hk55 x4 x5 x7 h k n hw
    · have hw := hw_22 c_20
      refine v_iload (q := 7) dX0_addedBy_123 rfl ?_
      obtain ⟨hw_25, hw_26⟩ := hw
      refine v_if_ne (tgt := 198) dX0_addedBy_125 (by decide) (fun c_23 => ?_) (fun c_24 => ?_)
      · have hw := hw_25 c_23
        refine v_sub [0, 1, 2, 3, 4, 5, 7] rfl ?_
        exact b_X0_addedBy_198 hk55 x4 x5 x7 h k n hw
      · have hw := hw_26 c_24
        refine v_aload_n (q := 0) dX0_addedBy_128 rfl rfl ?_
        refine v_aload (q := 6) dX0_addedBy_129 rfl ?_
        obtain ⟨a_27, ea_27, hw⟩ := hw
        subst ea_27
        obtain ⟨fs_28, r_31, e_29, e_30, hw⟩ := hw
        refine v_getN in_X9 (ci := 10) rfl 0 (Nat.le_of_ble_eq_true rfl) q569 rfl dX0_addedBy_131 e_29 e_30 ?_
        refine v_aload_n (q := 1) dX0_addedBy_134 rfl rfl ?_
        obtain ⟨fs_32, r_35, e_33, e_34, hw⟩ := hw
        refine v_getN in_X7 (ci := 8) rfl 4 (Nat.le_of_ble_eq_true rfl) q433 rfl dX0_addedBy_135 e_33 e_34 ?_
        refine v_iload (q := 8) dX0_addedBy_138 rfl ?_
        obtain ⟨a_36, ea_36, hw⟩ := hw
        subst ea_36
        obtain ⟨fs_89, e_90, hw⟩ := hw
        refine v_callV0 q577 q578 q579 q108 q580 (ci := 2) rfl e_90 n_J2_get ⟨Nat.le_of_ble_eq_true rfl, Nat.le_of_ble_eq_true rfl⟩ [.int x8] [va_rf r_31, va_rf (some b0)] (met_J2_get hw) rfl (by simp only [List.map_cons, List.map_nil, List.sum_cons, List.sum_nil, v_rf1, v_cI, v_cJ]; decide) rfl rfl dX0_addedBy_140 rfl (v_kq (fun r_37 h1 hv => ?_))
        clear hw
        obtain ⟨e9, hw⟩ := hv
        refine v_heap e9 ?_
        clear e9
        obtain ⟨a_38, ea_38, hw⟩ := hw
        subst ea_38
        obtain ⟨fs_39, e_40, hw⟩ := hw
        refine v_cast (ci := 9) rfl q304 dX0_addedBy_143 e_40 ?_
        obtain ⟨fs_87, e_88, hw⟩ := hw
        refine v_callV0 q621 q623 qs8 q104 q624 (ci := 0) rfl e_88 n_X0_likeness ⟨Nat.le_of_ble_eq_true rfl, Nat.le_of_ble_eq_true rfl⟩ [va_rf r_31, va_rf (some a_38)] [] (met_X0_likeness hw) rfl (Nat.zero_le _) rfl rfl dX0_addedBy_146 rfl (v_ki (fun z_41 h_42 hv => ?_))
        clear hw
        have hw := hv
        clear hv
        refine v_aload_n (q := 0) dX0_addedBy_149 rfl rfl ?_
        obtain ⟨fs_43, r_46, e_44, e_45, hw⟩ := hw
        refine v_get in_X0 (ci := 0) rfl 1 (Nat.le_of_ble_eq_true rfl) q319 rfl dX0_addedBy_150 e_44 e_45 ?_
        obtain ⟨a_47, ea_47, hw⟩ := hw
        subst ea_47
        obtain ⟨fs_48, z_51, e_49, e_50, hw⟩ := hw
        refine v_getN in_X1 (ci := 1) rfl 1 (Nat.le_of_ble_eq_true rfl) q222 rfl dX0_addedBy_153 e_49 e_50 ?_
        obtain ⟨hw_54, hw_55⟩ := hw
        refine v_icmp_ge (tgt := 185) dX0_addedBy_156 (by decide) (fun c_52 => ?_) (fun c_53 => ?_)
        · have hw := hw_54 c_52
          refine v_sub [0, 1, 2, 3, 4, 5, 6, 8] rfl ?_
          exact b_X0_addedBy_185 hk55 (fun q0 q1 q2 q3 q4 q5 q6 q7 z => ih q0 q1 q2 q3 q4 q5 q6 q7 z) x4 x5 (some a_27) x8 h_42 k n hw
        · have hw := hw_55 c_53
          refine v_aload_n (q := 0) dX0_addedBy_159 rfl rfl ?_
          refine v_aload (q := 6) dX0_addedBy_160 rfl ?_
          obtain ⟨fs_56, r_59, e_57, e_58, hw⟩ := hw
          refine v_getN in_X9 (ci := 10) rfl 0 (Nat.le_of_ble_eq_true rfl) q569 rfl dX0_addedBy_162 e_57 e_58 ?_
          refine v_aload_n (q := 0) dX0_addedBy_165 rfl rfl ?_
          obtain ⟨fs_60, r_63, e_61, e_62, hw⟩ := hw
          refine v_get in_X0 (ci := 0) rfl 15 (Nat.le_of_ble_eq_true rfl) q334 rfl dX0_addedBy_166 e_61 e_62 ?_
          refine v_iload (q := 8) dX0_addedBy_169 rfl ?_
          obtain ⟨a_64, ea_64, hw⟩ := hw
          subst ea_64
          obtain ⟨N_65, g_66, e_67, hi_68, hw⟩ := hw
          refine v_aaldP dX0_addedBy_171 e_67 hi_68 ?_
          refine v_topq (fun r_69 er_69 => ?_)
          replace hw := hw r_69 er_69
          obtain ⟨fs_85, e_86, hw⟩ := hw
          refine v_callV0 q621 q623 qs8 q104 q624 (ci := 0) rfl e_86 n_X0_likeness ⟨Nat.le_of_ble_eq_true rfl, Nat.le_of_ble_eq_true rfl⟩ [va_rf r_59, va_rf r_69] [] (met_X0_likeness hw) rfl (Nat.zero_le _) rfl rfl dX0_addedBy_172 rfl (v_ki (fun z_70 h_71 hv => ?_))
          clear hw
          have hw := hv
          clear hv
          refine v_aload_n (q := 0) dX0_addedBy_175 rfl rfl ?_
          obtain ⟨fs_72, r_75, e_73, e_74, hw⟩ := hw
          refine v_get in_X0 (ci := 0) rfl 1 (Nat.le_of_ble_eq_true rfl) q319 rfl dX0_addedBy_176 e_73 e_74 ?_
          obtain ⟨a_76, ea_76, hw⟩ := hw
          subst ea_76
          obtain ⟨fs_77, z_80, e_78, e_79, hw⟩ := hw
          refine v_getN in_X1 (ci := 1) rfl 1 (Nat.le_of_ble_eq_true rfl) q222 rfl dX0_addedBy_179 e_78 e_79 ?_
          obtain ⟨hw_83, hw_84⟩ := hw
          refine v_icmp_lt (tgt := 189) dX0_addedBy_182 (by decide) (fun c_81 => ?_) (fun c_82 => ?_)
          · have hw := hw_83 c_81
            refine v_iconst dX0_addedBy_189 ic_0 ?_
            refine v_sub [0, 1, 2, 3, 4, 5, 6, 8] rfl ?_
            exact b_X0_addedBy_190 hk55 (fun q0 q1 q2 q3 q4 q5 q6 q7 z => ih q0 q1 q2 q3 q4 q5 q6 q7 z) x4 x5 (some a_27) x8 (nI 0) h_71 k n hw
          · have hw := hw_84 c_82
            refine v_sub [0, 1, 2, 3, 4, 5, 6, 8] rfl ?_
            exact b_X0_addedBy_185 hk55 (fun q0 q1 q2 q3 q4 q5 q6 q7 z => ih q0 q1 q2 q3 q4 q5 q6 q7 z) x4 x5 (some a_27) x8 h_71 k n hw
theorem b_X0_addedBy_55 {post : (Int32) → (AH) → Prop}   {b0 : Nat} {x1 : Option Nat} {x2 : Int32} {x3 : Int32}    : ∀ (n0 : Nat) (x4 : Int32) (x5 : Int32) (h : AH) (k : Nat) (n : Nat), w_X0_addedBy_55 post b0 x1 x2 x3 n0 x4 x5 h k n → VV l E X cX0_addedBy RX0 "addedBy" 9 r_X0_addedBy (some .int) (vpi (fun (r : Int32) (h' : AH) => post r h')) h k n 55 [(0, va_rf (some b0)), (1, va_rf x1), (2, .int x2), (3, .int x3), (4, .int x4), (5, .int x5)] [] := by
  intro n0
  induction n0 with
  | zero =>
    intro x4 x5 h k n hw
    exact hw.elim
  | succ n0 ih =>
    intro x4 x5 h k n hw
    refine v_iload (q := 5) dX0_addedBy_55 rfl ?_
    refine v_aload_n (q := 0) dX0_addedBy_57 rfl rfl ?_
    obtain ⟨fs_93, r_96, e_94, e_95, hw⟩ := hw
    refine v_get in_X0 (ci := 0) rfl 1 (Nat.le_of_ble_eq_true rfl) q319 rfl dX0_addedBy_58 e_94 e_95 ?_
    obtain ⟨a_97, ea_97, hw⟩ := hw
    subst ea_97
    obtain ⟨fs_98, r_101, e_99, e_100, hw⟩ := hw
    refine v_getN in_X1 (ci := 1) rfl 5 (Nat.le_of_ble_eq_true rfl) q230 rfl dX0_addedBy_61 e_99 e_100 ?_
    obtain ⟨a_102, ea_102, hw⟩ := hw
    subst ea_102
    obtain ⟨fs_141, e_142, hw⟩ := hw
    refine v_callV0 q413 q414 q415 q108 q416 (ci := 2) rfl e_142 n_J2_size ⟨Nat.le_of_ble_eq_true rfl, Nat.le_of_ble_eq_true rfl⟩ [] [.int x5] (met_J2_size hw) rfl (Nat.le_of_ble_eq_true rfl) rfl rfl dX0_addedBy_64 rfl (v_ki (fun z_103 h1 hv => ?_))
    clear hw
    obtain ⟨e9, hw⟩ := hv
    refine v_heap e9 ?_
    clear e9
    obtain ⟨hw_106, hw_107⟩ := hw
    refine v_icmp_ge (tgt := 224) dX0_addedBy_67 (by decide) (fun c_104 => ?_) (fun c_105 => ?_)
    · have hw := hw_106 c_104
      refine v_iload_n (q := 3) dX0_addedBy_224 rfl rfl ?_
      refine v_iconst dX0_addedBy_225 ic_m1 ?_
      obtain ⟨hw_110, hw_111⟩ := hw
      refine v_icmp_ne (tgt := 234) dX0_addedBy_226 (by decide) (fun c_108 => ?_) (fun c_109 => ?_)
      · have hw := hw_110 c_108
        refine v_iconst dX0_addedBy_234 ic_m1 ?_
        exact v_iret dX0_addedBy_235 rfl ⟨_, rfl, hw⟩
      · have hw := hw_111 c_109
        refine v_iload (q := 4) dX0_addedBy_229 rfl ?_
        refine v_goto (tgt := 235) dX0_addedBy_231 (by decide) ?_
        exact v_iret dX0_addedBy_235 rfl ⟨_, rfl, hw⟩
    · have hw := hw_107 c_105
      refine v_aload_n (q := 0) dX0_addedBy_70 rfl rfl ?_
      obtain ⟨fs_112, r_115, e_113, e_114, hw⟩ := hw
      refine v_get in_X0 (ci := 0) rfl 1 (Nat.le_of_ble_eq_true rfl) q319 rfl dX0_addedBy_71 e_113 e_114 ?_
      obtain ⟨a_116, ea_116, hw⟩ := hw
      subst ea_116
      obtain ⟨fs_117, r_120, e_118, e_119, hw⟩ := hw
      refine v_getN in_X1 (ci := 1) rfl 5 (Nat.le_of_ble_eq_true rfl) q230 rfl dX0_addedBy_74 e_118 e_119 ?_
      refine v_iload (q := 5) dX0_addedBy_77 rfl ?_
      obtain ⟨a_121, ea_121, hw⟩ := hw
      subst ea_121
      obtain ⟨fs_139, e_140, hw⟩ := hw
      refine v_callV0 q577 q578 q579 q108 q580 (ci := 2) rfl e_140 n_J2_get ⟨Nat.le_of_ble_eq_true rfl, Nat.le_of_ble_eq_true rfl⟩ [.int x5] [] (met_J2_get hw) rfl (Nat.zero_le _) rfl rfl dX0_addedBy_79 rfl (v_kq (fun r_122 h1 hv => ?_))
      clear hw
      obtain ⟨e9, hw⟩ := hv
      refine v_heap e9 ?_
      clear e9
      obtain ⟨a_123, ea_123, hw⟩ := hw
      subst ea_123
      obtain ⟨fs_124, e_125, hw⟩ := hw
      refine v_cast (ci := 10) rfl q562 dX0_addedBy_82 e_125 ?_
      refine v_astore (lv1 := [(6, va_rf (some a_123)), (0, va_rf (some b0)), (1, va_rf x1), (2, .int x2), (3, .int x3), (4, .int x4), (5, .int x5)]) dX0_addedBy_85 (Nat.le_of_ble_eq_true rfl) rfl ?_
      refine v_aload_n (q := 1) dX0_addedBy_87 rfl rfl ?_
      refine v_aload (q := 0) dX0_addedBy_88 rfl ?_
      obtain ⟨fs_137, e_138, hw⟩ := hw
      obtain ⟨e_135, e_136, hw⟩ := hw
      refine v_callV q1019 q1021 qs34 q104 q1022 (ci := 0) rfl e_138 n_X0_comes ⟨Nat.le_of_ble_eq_true rfl, Nat.le_of_ble_eq_true rfl⟩ [va_rf (some a_123)] [] (met_X0_comes hw) rfl (Nat.zero_le _) ⟨e_135, e_136⟩ dX0_addedBy_90 rfl (v_kq (fun r_126 h_127 hv => ?_))
      clear hw
      have hw := hv
      clear hv
      obtain ⟨a_128, ea_128, hw⟩ := hw
      subst ea_128
      refine v_Kind q1073 ⟨Nat.le_of_ble_eq_true rfl, Nat.le_of_ble_eq_true rfl⟩ [] hw (Nat.zero_le _) dX0_addedBy_93 (fun z_129 hv => ?_)
      clear hw
      have hw := hv
      clear hv
      refine v_iconst dX0_addedBy_98 ic_3 ?_
      obtain ⟨hw_132, hw_133⟩ := hw
      refine v_icmp_ge (tgt := 105) dX0_addedBy_99 (by decide) (fun c_130 => ?_) (fun c_131 => ?_)
      · have hw := hw_132 c_130
        refine v_iconst dX0_addedBy_105 ic_0 ?_
        refine v_istore (lv1 := [(7, .int (nI 0)), (6, va_rf (some a_123)), (0, va_rf (some b0)), (1, va_rf x1), (2, .int x2), (3, .int x3), (4, .int x4), (5, .int x5)]) dX0_addedBy_106 (Nat.le_of_ble_eq_true rfl) rfl ?_
        refine v_iconst dX0_addedBy_108 ic_0 ?_
        refine v_istore (lv1 := [(8, .int (nI 0)), (7, .int (nI 0)), (6, va_rf (some a_123)), (0, va_rf (some b0)), (1, va_rf x1), (2, .int x2), (3, .int x3), (4, .int x4), (5, .int x5)]) dX0_addedBy_109 (Nat.le_of_ble_eq_true rfl) rfl ?_
        obtain ⟨n_134, hw⟩ := hw
        refine v_sub [3, 4, 5, 6, 7, 8, 2, 1, 0] rfl ?_
        exact b_X0_addedBy_111 (fun q0 q1 q2 q3 q4 z => ih q0 q1 q2 q3 q4 z) n_134 x4 x5 (some a_123) (nI 0) (nI 0) h_127 (k + 1) (n + 1) hw
      · have hw := hw_133 c_131
        refine v_goto (tgt := 218) dX0_addedBy_102 (by decide) ?_
        refine v_sub [1, 2, 3, 4, 5, 6] rfl ?_
        exact b_X0_addedBy_218 (fun q0 q1 q2 q3 q4 z => ih q0 q1 q2 q3 q4 z) x4 x5 h_127 (k + 1) (n + 1) hw
theorem b_X0_addedBy_7 {post : (Int32) → (AH) → Prop}   {b0 : Nat} {x1 : Option Nat} {x2 : Int32} {x3 : Int32}    : ∀ (n0 : Nat) (x4 : Int32) (h : AH) (k : Nat) (n : Nat), w_X0_addedBy_7 post b0 x1 x2 x3 n0 x4 h k n → VV l E X cX0_addedBy RX0 "addedBy" 9 r_X0_addedBy (some .int) (vpi (fun (r : Int32) (h' : AH) => post r h')) h k n 7 [(0, va_rf (some b0)), (1, va_rf x1), (2, .int x2), (3, .int x3), (4, .int x4)] [] := by
  intro n0
  induction n0 with
  | zero =>
    intro x4 h k n hw
    exact hw.elim
  | succ n0 ih =>
    intro x4 h k n hw
    refine v_iload (q := 4) dX0_addedBy_7 rfl ?_
    refine v_aload_n (q := 1) dX0_addedBy_9 rfl rfl ?_
    obtain ⟨a_143, ea_143, hw⟩ := hw
    subst ea_143
    obtain ⟨fs_144, r_147, e_145, e_146, hw⟩ := hw
    refine v_getN in_X7 (ci := 8) rfl 4 (Nat.le_of_ble_eq_true rfl) q433 rfl dX0_addedBy_10 e_145 e_146 ?_
    obtain ⟨a_148, ea_148, hw⟩ := hw
    subst ea_148
    obtain ⟨fs_188, e_189, hw⟩ := hw
    refine v_callV0 q413 q414 q415 q108 q416 (ci := 2) rfl e_189 n_J2_size ⟨Nat.le_of_ble_eq_true rfl, Nat.le_of_ble_eq_true rfl⟩ [] [.int x4] (met_J2_size hw) rfl (Nat.le_of_ble_eq_true rfl) rfl rfl dX0_addedBy_13 rfl (v_ki (fun z_149 h1 hv => ?_))
    clear hw
    obtain ⟨e9, hw⟩ := hv
    refine v_heap e9 ?_
    clear e9
    obtain ⟨hw_152, hw_153⟩ := hw
    refine v_icmp_ge (tgt := 49) dX0_addedBy_16 (by decide) (fun c_150 => ?_) (fun c_151 => ?_)
    · have hw := hw_152 c_150
      refine v_iconst dX0_addedBy_49 ic_0 ?_
      refine v_istore (lv1 := [(4, .int (nI 0)), (0, va_rf (some b0)), (1, va_rf (some a_143)), (2, .int x2), (3, .int x3)]) dX0_addedBy_50 (Nat.le_of_ble_eq_true rfl) rfl ?_
      refine v_iconst dX0_addedBy_52 ic_0 ?_
      refine v_istore (lv1 := [(5, .int (nI 0)), (4, .int (nI 0)), (0, va_rf (some b0)), (1, va_rf (some a_143)), (2, .int x2), (3, .int x3)]) dX0_addedBy_53 (Nat.le_of_ble_eq_true rfl) rfl ?_
      obtain ⟨n_154, hw⟩ := hw
      refine v_sub [2, 3, 4, 5, 1, 0] rfl ?_
      exact b_X0_addedBy_55 n_154 (nI 0) (nI 0) h k n hw
    · have hw := hw_153 c_151
      refine v_aload_n (q := 0) dX0_addedBy_19 rfl rfl ?_
      obtain ⟨fs_155, r_158, e_156, e_157, hw⟩ := hw
      refine v_get in_X0 (ci := 0) rfl 15 (Nat.le_of_ble_eq_true rfl) q334 rfl dX0_addedBy_20 e_156 e_157 ?_
      refine v_iload (q := 4) dX0_addedBy_23 rfl ?_
      refine v_aload_n (q := 0) dX0_addedBy_25 rfl rfl ?_
      refine v_aload_n (q := 1) dX0_addedBy_26 rfl rfl ?_
      obtain ⟨fs_159, r_162, e_160, e_161, hw⟩ := hw
      refine v_getN in_X7 (ci := 8) rfl 4 (Nat.le_of_ble_eq_true rfl) q433 rfl dX0_addedBy_27 e_160 e_161 ?_
      refine v_iload (q := 4) dX0_addedBy_30 rfl ?_
      obtain ⟨a_163, ea_163, hw⟩ := hw
      subst ea_163
      obtain ⟨fs_186, e_187, hw⟩ := hw
      refine v_callV0 q577 q578 q579 q108 q580 (ci := 2) rfl e_187 n_J2_get ⟨Nat.le_of_ble_eq_true rfl, Nat.le_of_ble_eq_true rfl⟩ [.int x4] [va_rf (some b0), .int x4, va_rf r_158] (met_J2_get hw) rfl (by simp only [List.map_cons, List.map_nil, List.sum_cons, List.sum_nil, v_rf1, v_cI, v_cJ]; decide) rfl rfl dX0_addedBy_32 rfl (v_kq (fun r_164 h1 hv => ?_))
      clear hw
      obtain ⟨e9, hw⟩ := hv
      refine v_heap e9 ?_
      clear e9
      obtain ⟨a_165, ea_165, hw⟩ := hw
      subst ea_165
      obtain ⟨fs_166, e_167, hw⟩ := hw
      refine v_cast (ci := 9) rfl q304 dX0_addedBy_35 e_167 ?_
      refine v_iload_n (q := 2) dX0_addedBy_38 rfl rfl ?_
      obtain ⟨fs_184, e_185, hw⟩ := hw
      obtain ⟨e_182, e_183, hw⟩ := hw
      refine v_callV q911 q913 qs26 q104 q914 (ci := 0) rfl e_185 n_X0_smooths ⟨Nat.le_of_ble_eq_true rfl, Nat.le_of_ble_eq_true rfl⟩ [va_rf (some a_165), .int x2] [.int x4, va_rf r_158] (met_X0_smooths hw) rfl (by simp only [List.map_cons, List.map_nil, List.sum_cons, List.sum_nil, v_rf1, v_cI, v_cJ]; decide) ⟨e_182, e_183⟩ dX0_addedBy_39 rfl (v_kq (fun r_168 h_169 hv => ?_))
      clear hw
      have hw := hv
      clear hv
      obtain ⟨a_170, ea_170, hw⟩ := hw
      subst ea_170
      obtain ⟨a_176, ea_176, hw⟩ := hw
      subst ea_176
      obtain ⟨fs_177, e_178, N_171, g_172, e_173, hi_174, hw⟩ := hw
      obtain ⟨h_175, eh_175⟩ : ∃ z9 : AH, z9 = va_up h_169 a_170 (some (.inl (6, N_171, .inr (.inr (.inr (.inr (va_up g_172 (x4).toNatClampNeg (some a_176)))))))) := ⟨_, rfl⟩
      replace hw := hw h_175 eh_175
      refine v_aastP (ci := 9) rfl dX0_addedBy_42 e_173 hi_174 e_178 ?_
      rw [← eh_175]
      obtain ⟨z_181, e_181⟩ : ∃ z9 : Int32, z9 = x4 + (nI 1) := ⟨_, rfl⟩
      replace hw := hw z_181 e_181
      refine v_iinc (q := 4) (v := z_181) (lv1 := [(4, .int z_181), (0, va_rf (some b0)), (1, va_rf (some a_143)), (2, .int x2), (3, .int x3)]) dX0_addedBy_43 rfl (by rw [e_181, ic_1]) (Nat.le_of_ble_eq_true rfl) rfl ?_
      refine v_goto (tgt := 7) dX0_addedBy_46 (by decide) ?_
      refine v_sub [1, 2, 3, 4, 0] rfl ?_
      exact ih z_181 h_175 (k + 24) (n + 120) hw
theorem e_X0_addedBy {post : (Int32) → (AH) → Prop}   {b0 : Nat} {x1 : Option Nat} {x2 : Int32} {x3 : Int32} {h : AH}  (hw : w_X0_addedBy post  b0 x1 x2 x3 h) : VV l E X cX0_addedBy RX0 "addedBy" 9 r_X0_addedBy (some .int) (vpi (fun (r : Int32) (h' : AH) => post r h')) h 0 0 0 [(0, va_rf (some b0)), (1, va_rf x1), (2, .int x2), (3, .int x3)] [] := by
  refine v_aload_n (q := 0) dX0_addedBy_0 rfl rfl ?_
  obtain ⟨fs_194, e_195, hw⟩ := hw
  obtain ⟨e_192, e_193, hw⟩ := hw
  refine v_callV q1011 q1013 qs32 q104 q1014 (ci := 0) rfl e_195 n_X0_laySmooth ⟨Nat.le_of_ble_eq_true rfl, Nat.le_of_ble_eq_true rfl⟩ [] [] (met_X0_laySmooth hw) rfl (Nat.zero_le _) ⟨e_192, e_193⟩ dX0_addedBy_1 rfl (v_kv (fun h_190 hv => ?_))
  clear hw
  have hw := hv
  clear hv
  refine v_iconst dX0_addedBy_4 ic_0 ?_
  refine v_istore (lv1 := [(4, .int (nI 0)), (0, va_rf (some b0)), (1, va_rf x1), (2, .int x2), (3, .int x3)]) dX0_addedBy_5 (Nat.le_of_ble_eq_true rfl) rfl ?_
  obtain ⟨n_191, hw⟩ := hw
  refine v_sub [1, 2, 3, 4, 0] rfl ?_
  exact b_X0_addedBy_7 n_191 (nI 0) h_190 (0 + 11520) (0 + 57600) hw
theorem met_X0_addedBy {post : (Int32) → (AH) → Prop}   {b0 : Nat} {x1 : Option Nat} {x2 : Int32} {x3 : Int32} {h : AH}  (hw : w_X0_addedBy post  b0 x1 x2 x3 h) : Mt l E yX0_addedBy (ws_ yX0_addedBy cX0_addedBy 9 (some .int)) r_X0_addedBy [va_rf (some b0), va_rf x1, .int x2, .int x3] h (vpi (fun (r : Int32) (h' : AH) => post r h')) := v_entry (by decide +kernel) (by cases x1 <;> exact (Nat.le_of_ble_eq_true rfl)) (by cases x1 <;> exact rfl) (fun _ => e_X0_addedBy hw)
/-! X0_adds -/
abbrev r_X0_adds : Room := { frames := 209, cells := 11868, slots := 59100, locals := 8303 }
theorem n_X0_adds : vdn yX0_adds 2 := ⟨by decide +kernel, by decide +kernel, by decide +kernel⟩
def w_X0_adds (post : (Int32) → (AH) → Prop) (b0 : Nat) (x1 : Int32) (x2 : Int32) (h : AH) : Prop :=
 (∃ fs_41 : List Value, h b0 = some (.inr (0, fs_41)) ∧ (w_X0_isBook (fun (z_1 : Int32) => ((¬ z_1 = 0 → (w_X0_isTale (fun (z_6 : Int32) => ((z_6 = 0 → (∃ fs_13 : List Value, h b0 = some (.inr (0, fs_13)) ∧ (w_X0_refuse (fun (z_11 : Int32) (h_12 : AH) => (post z_11 h_12)) b0 (-3) h))) ∧ (¬ z_6 = 0 → (∃ (fs_15 : List Value) (r_18 : Option Nat), h b0 = some (.inr (0, fs_15)) ∧ fs_15[1]? = some (va_rf r_18) ∧ (∃ a_19 : Nat, r_18 = some a_19 ∧ (∃ (fs_20 : List Value) (r_23 : Option Nat), h a_19 = some (.inr (1, fs_20)) ∧ fs_20[4]? = some (va_rf r_23) ∧ (∃ a_24 : Nat, r_23 = some a_24 ∧ (∃ fs_35 : List Value, h a_24 = some (.inr (2, fs_35)) ∧ (w_J2_get (fun (r_25 : Option Nat) => (∃ a_26 : Nat, r_25 = some a_26 ∧ (∃ fs_27 : List Value, h a_26 = some (.inr (8, fs_27)) ∧ (∃ fs_33 : List Value, h b0 = some (.inr (0, fs_33)) ∧ (0 + 11868 ≤ 11868 ∧ 0 + 59100 ≤ 59100 ∧ (w_X0_addedBy (fun (z_29 : Int32) (h_30 : AH) => (post z_29 h_30)) b0 (some a_26) x2 (-1) h)))))) a_24 x1 h))))))))) x2)) ∧ (z_1 = 0 → (∃ fs_39 : List Value, h b0 = some (.inr (0, fs_39)) ∧ (w_X0_refuse (fun (z_37 : Int32) (h_38 : AH) => (post z_37 h_38)) b0 (-2) h))))) b0 x1 h))
theorem e_X0_adds {post : (Int32) → (AH) → Prop}   {b0 : Nat} {x1 : Int32} {x2 : Int32} {h : AH}  (hw : w_X0_adds post  b0 x1 x2 h) : VV l E X cX0_adds RX0 "adds" 3 r_X0_adds (some .int) (vpi (fun (r : Int32) (h' : AH) => post r h')) h 0 0 0 [(0, va_rf (some b0)), (1, .int x1), (2, .int x2)] [] := by
  refine v_aload_n (q := 0) dX0_adds_0 rfl rfl ?_
  refine v_iload_n (q := 1) dX0_adds_1 rfl rfl ?_
  obtain ⟨fs_41, e_42, hw⟩ := hw
  refine v_callV0 q529 q531 qs5 q104 q532 (ci := 0) rfl e_42 n_X0_isBook ⟨Nat.le_of_ble_eq_true rfl, Nat.le_of_ble_eq_true rfl⟩ [.int x1] [] (met_X0_isBook hw) rfl (Nat.zero_le _) rfl rfl dX0_adds_2 rfl (v_ki (fun z_1 h1 hv => ?_))
  clear hw
  obtain ⟨e9, hw⟩ := hv
  refine v_heap e9 ?_
  clear e9
  obtain ⟨hw_4, hw_5⟩ := hw
  refine v_if_ne (tgt := 15) dX0_adds_5 (by decide) (fun c_2 => ?_) (fun c_3 => ?_)
  · have hw := hw_4 c_2
    refine v_iload_n (q := 2) dX0_adds_15 rfl rfl ?_
    refine v_callS0 q400 q401 q104 q402 n_X0_isTale ⟨Nat.le_of_ble_eq_true rfl, Nat.le_of_ble_eq_true rfl⟩ [.int x2] [] (met_X0_isTale hw) rfl (Nat.zero_le _) rfl rfl dX0_adds_16 rfl (v_ki (fun z_6 h1 hv => ?_))
    clear hw
    obtain ⟨e9, hw⟩ := hv
    refine v_heap e9 ?_
    clear e9
    obtain ⟨hw_9, hw_10⟩ := hw
    refine v_if_eq (tgt := 45) dX0_adds_19 (by decide) (fun c_7 => ?_) (fun c_8 => ?_)
    · have hw := hw_9 c_7
      refine v_aload_n (q := 0) dX0_adds_45 rfl rfl ?_
      refine v_bipush dX0_adds_46 bp_m3 ?_
      obtain ⟨fs_13, e_14, hw⟩ := hw
      refine v_callV0 q396 q398 qs0 q104 q399 (ci := 0) rfl e_14 n_X0_refuse ⟨Nat.le_of_ble_eq_true rfl, Nat.le_of_ble_eq_true rfl⟩ [.int (-3)] [] (met_X0_refuse hw) rfl (Nat.zero_le _) rfl rfl dX0_adds_48 rfl (v_ki (fun z_11 h_12 hv => ?_))
      clear hw
      have hw := hv
      clear hv
      exact v_iret dX0_adds_51 rfl ⟨_, rfl, hw⟩
    · have hw := hw_10 c_8
      refine v_aload_n (q := 0) dX0_adds_22 rfl rfl ?_
      refine v_aload_n (q := 0) dX0_adds_23 rfl rfl ?_
      obtain ⟨fs_15, r_18, e_16, e_17, hw⟩ := hw
      refine v_get in_X0 (ci := 0) rfl 1 (Nat.le_of_ble_eq_true rfl) q319 rfl dX0_adds_24 e_16 e_17 ?_
      obtain ⟨a_19, ea_19, hw⟩ := hw
      subst ea_19
      obtain ⟨fs_20, r_23, e_21, e_22, hw⟩ := hw
      refine v_getN in_X1 (ci := 1) rfl 4 (Nat.le_of_ble_eq_true rfl) q228 rfl dX0_adds_27 e_21 e_22 ?_
      refine v_iload_n (q := 1) dX0_adds_30 rfl rfl ?_
      obtain ⟨a_24, ea_24, hw⟩ := hw
      subst ea_24
      obtain ⟨fs_35, e_36, hw⟩ := hw
      refine v_callV0 q577 q578 q579 q108 q580 (ci := 2) rfl e_36 n_J2_get ⟨Nat.le_of_ble_eq_true rfl, Nat.le_of_ble_eq_true rfl⟩ [.int x1] [va_rf (some b0)] (met_J2_get hw) rfl (by simp only [List.map_cons, List.map_nil, List.sum_cons, List.sum_nil, v_rf1, v_cI, v_cJ]; decide) rfl rfl dX0_adds_31 rfl (v_kq (fun r_25 h1 hv => ?_))
      clear hw
      obtain ⟨e9, hw⟩ := hv
      refine v_heap e9 ?_
      clear e9
      obtain ⟨a_26, ea_26, hw⟩ := hw
      subst ea_26
      obtain ⟨fs_27, e_28, hw⟩ := hw
      refine v_cast (ci := 8) rfl q417 dX0_adds_34 e_28 ?_
      refine v_iload_n (q := 2) dX0_adds_37 rfl rfl ?_
      refine v_iconst dX0_adds_38 ic_m1 ?_
      obtain ⟨fs_33, e_34, hw⟩ := hw
      obtain ⟨e_31, e_32, hw⟩ := hw
      refine v_callV q1193 q1195 qs43 q104 q1196 (ci := 0) rfl e_34 n_X0_addedBy ⟨Nat.le_of_ble_eq_true rfl, Nat.le_of_ble_eq_true rfl⟩ [va_rf (some a_26), .int x2, .int (-1)] [] (met_X0_addedBy hw) rfl (Nat.zero_le _) ⟨e_31, e_32⟩ dX0_adds_39 rfl (v_ki (fun z_29 h_30 hv => ?_))
      clear hw
      have hw := hv
      clear hv
      refine v_goto (tgt := 51) dX0_adds_42 (by decide) ?_
      exact v_iret dX0_adds_51 rfl ⟨_, rfl, hw⟩
  · have hw := hw_5 c_3
    refine v_aload_n (q := 0) dX0_adds_8 rfl rfl ?_
    refine v_bipush dX0_adds_9 bp_m2 ?_
    obtain ⟨fs_39, e_40, hw⟩ := hw
    refine v_callV0 q396 q398 qs0 q104 q399 (ci := 0) rfl e_40 n_X0_refuse ⟨Nat.le_of_ble_eq_true rfl, Nat.le_of_ble_eq_true rfl⟩ [.int (-2)] [] (met_X0_refuse hw) rfl (Nat.zero_le _) rfl rfl dX0_adds_11 rfl (v_ki (fun z_37 h_38 hv => ?_))
    clear hw
    have hw := hv
    clear hv
    exact v_iret dX0_adds_14 rfl ⟨_, rfl, hw⟩
theorem met_X0_adds {post : (Int32) → (AH) → Prop}   {b0 : Nat} {x1 : Int32} {x2 : Int32} {h : AH}  (hw : w_X0_adds post  b0 x1 x2 h) : Mt l E yX0_adds (ws_ yX0_adds cX0_adds 3 (some .int)) r_X0_adds [va_rf (some b0), .int x1, .int x2] h (vpi (fun (r : Int32) (h' : AH) => post r h')) := v_entry (by decide +kernel) (Nat.le_of_ble_eq_true rfl) rfl (fun _ => e_X0_adds hw)
/-! X0_added -/
abbrev r_X0_added : Room := { frames := 209, cells := 11868, slots := 59100, locals := 8303 }
theorem n_X0_added : vdn yX0_added 3 := ⟨by decide +kernel, by decide +kernel, by decide +kernel⟩
def w_X0_added (post : (Int32) → (AH) → Prop) (b0 : Nat) (x1 : Int32) (x2 : Int32) (x3 : Int32) (h : AH) : Prop :=
 (∃ fs_45 : List Value, h b0 = some (.inr (0, fs_45)) ∧ (w_X0_isBook (fun (z_1 : Int32) => ((¬ z_1 = 0 → (w_X0_isTale (fun (z_6 : Int32) => ((¬ z_6 = 0 → ((0 ≤ x3 → (∃ (fs_15 : List Value) (r_18 : Option Nat), h b0 = some (.inr (0, fs_15)) ∧ fs_15[1]? = some (va_rf r_18) ∧ (∃ a_19 : Nat, r_18 = some a_19 ∧ (∃ (fs_20 : List Value) (r_23 : Option Nat), h a_19 = some (.inr (1, fs_20)) ∧ fs_20[4]? = some (va_rf r_23) ∧ (∃ a_24 : Nat, r_23 = some a_24 ∧ (∃ fs_35 : List Value, h a_24 = some (.inr (2, fs_35)) ∧ (w_J2_get (fun (r_25 : Option Nat) => (∃ a_26 : Nat, r_25 = some a_26 ∧ (∃ fs_27 : List Value, h a_26 = some (.inr (8, fs_27)) ∧ (∃ fs_33 : List Value, h b0 = some (.inr (0, fs_33)) ∧ (0 + 11868 ≤ 11868 ∧ 0 + 59100 ≤ 59100 ∧ (w_X0_addedBy (fun (z_29 : Int32) (h_30 : AH) => (post z_29 h_30)) b0 (some a_26) x2 x3 h)))))) a_24 x1 h))))))) ∧ (¬ 0 ≤ x3 → (post (-1) h)))) ∧ (z_6 = 0 → (∃ fs_39 : List Value, h b0 = some (.inr (0, fs_39)) ∧ (w_X0_refuse (fun (z_37 : Int32) (h_38 : AH) => (post z_37 h_38)) b0 (-3) h))))) x2)) ∧ (z_1 = 0 → (∃ fs_43 : List Value, h b0 = some (.inr (0, fs_43)) ∧ (w_X0_refuse (fun (z_41 : Int32) (h_42 : AH) => (post z_41 h_42)) b0 (-2) h))))) b0 x1 h))
theorem e_X0_added {post : (Int32) → (AH) → Prop}   {b0 : Nat} {x1 : Int32} {x2 : Int32} {x3 : Int32} {h : AH}  (hw : w_X0_added post  b0 x1 x2 x3 h) : VV l E X cX0_added RX0 "added" 4 r_X0_added (some .int) (vpi (fun (r : Int32) (h' : AH) => post r h')) h 0 0 0 [(0, va_rf (some b0)), (1, .int x1), (2, .int x2), (3, .int x3)] [] := by
  refine v_aload_n (q := 0) dX0_added_0 rfl rfl ?_
  refine v_iload_n (q := 1) dX0_added_1 rfl rfl ?_
  obtain ⟨fs_45, e_46, hw⟩ := hw
  refine v_callV0 q529 q531 qs5 q104 q532 (ci := 0) rfl e_46 n_X0_isBook ⟨Nat.le_of_ble_eq_true rfl, Nat.le_of_ble_eq_true rfl⟩ [.int x1] [] (met_X0_isBook hw) rfl (Nat.zero_le _) rfl rfl dX0_added_2 rfl (v_ki (fun z_1 h1 hv => ?_))
  clear hw
  obtain ⟨e9, hw⟩ := hv
  refine v_heap e9 ?_
  clear e9
  obtain ⟨hw_4, hw_5⟩ := hw
  refine v_if_ne (tgt := 15) dX0_added_5 (by decide) (fun c_2 => ?_) (fun c_3 => ?_)
  · have hw := hw_4 c_2
    refine v_iload_n (q := 2) dX0_added_15 rfl rfl ?_
    refine v_callS0 q400 q401 q104 q402 n_X0_isTale ⟨Nat.le_of_ble_eq_true rfl, Nat.le_of_ble_eq_true rfl⟩ [.int x2] [] (met_X0_isTale hw) rfl (Nat.zero_le _) rfl rfl dX0_added_16 rfl (v_ki (fun z_6 h1 hv => ?_))
    clear hw
    obtain ⟨e9, hw⟩ := hv
    refine v_heap e9 ?_
    clear e9
    obtain ⟨hw_9, hw_10⟩ := hw
    refine v_if_ne (tgt := 29) dX0_added_19 (by decide) (fun c_7 => ?_) (fun c_8 => ?_)
    · have hw := hw_9 c_7
      refine v_iload_n (q := 3) dX0_added_29 rfl rfl ?_
      obtain ⟨hw_13, hw_14⟩ := hw
      refine v_if_ge (tgt := 37) dX0_added_30 (by decide) (fun c_11 => ?_) (fun c_12 => ?_)
      · have hw := hw_13 c_11
        refine v_aload_n (q := 0) dX0_added_37 rfl rfl ?_
        refine v_aload_n (q := 0) dX0_added_38 rfl rfl ?_
        obtain ⟨fs_15, r_18, e_16, e_17, hw⟩ := hw
        refine v_get in_X0 (ci := 0) rfl 1 (Nat.le_of_ble_eq_true rfl) q319 rfl dX0_added_39 e_16 e_17 ?_
        obtain ⟨a_19, ea_19, hw⟩ := hw
        subst ea_19
        obtain ⟨fs_20, r_23, e_21, e_22, hw⟩ := hw
        refine v_getN in_X1 (ci := 1) rfl 4 (Nat.le_of_ble_eq_true rfl) q228 rfl dX0_added_42 e_21 e_22 ?_
        refine v_iload_n (q := 1) dX0_added_45 rfl rfl ?_
        obtain ⟨a_24, ea_24, hw⟩ := hw
        subst ea_24
        obtain ⟨fs_35, e_36, hw⟩ := hw
        refine v_callV0 q577 q578 q579 q108 q580 (ci := 2) rfl e_36 n_J2_get ⟨Nat.le_of_ble_eq_true rfl, Nat.le_of_ble_eq_true rfl⟩ [.int x1] [va_rf (some b0)] (met_J2_get hw) rfl (by simp only [List.map_cons, List.map_nil, List.sum_cons, List.sum_nil, v_rf1, v_cI, v_cJ]; decide) rfl rfl dX0_added_46 rfl (v_kq (fun r_25 h1 hv => ?_))
        clear hw
        obtain ⟨e9, hw⟩ := hv
        refine v_heap e9 ?_
        clear e9
        obtain ⟨a_26, ea_26, hw⟩ := hw
        subst ea_26
        obtain ⟨fs_27, e_28, hw⟩ := hw
        refine v_cast (ci := 8) rfl q417 dX0_added_49 e_28 ?_
        refine v_iload_n (q := 2) dX0_added_52 rfl rfl ?_
        refine v_iload_n (q := 3) dX0_added_53 rfl rfl ?_
        obtain ⟨fs_33, e_34, hw⟩ := hw
        obtain ⟨e_31, e_32, hw⟩ := hw
        refine v_callV q1193 q1195 qs43 q104 q1196 (ci := 0) rfl e_34 n_X0_addedBy ⟨Nat.le_of_ble_eq_true rfl, Nat.le_of_ble_eq_true rfl⟩ [va_rf (some a_26), .int x2, .int x3] [] (met_X0_addedBy hw) rfl (Nat.zero_le _) ⟨e_31, e_32⟩ dX0_added_54 rfl (v_ki (fun z_29 h_30 hv => ?_))
        clear hw
        have hw := hv
        clear hv
        exact v_iret dX0_added_57 rfl ⟨_, rfl, hw⟩
      · have hw := hw_14 c_12
        refine v_iconst dX0_added_33 ic_m1 ?_
        refine v_goto (tgt := 57) dX0_added_34 (by decide) ?_
        exact v_iret dX0_added_57 rfl ⟨_, rfl, hw⟩
    · have hw := hw_10 c_8
      refine v_aload_n (q := 0) dX0_added_22 rfl rfl ?_
      refine v_bipush dX0_added_23 bp_m3 ?_
      obtain ⟨fs_39, e_40, hw⟩ := hw
      refine v_callV0 q396 q398 qs0 q104 q399 (ci := 0) rfl e_40 n_X0_refuse ⟨Nat.le_of_ble_eq_true rfl, Nat.le_of_ble_eq_true rfl⟩ [.int (-3)] [] (met_X0_refuse hw) rfl (Nat.zero_le _) rfl rfl dX0_added_25 rfl (v_ki (fun z_37 h_38 hv => ?_))
      clear hw
      have hw := hv
      clear hv
      exact v_iret dX0_added_28 rfl ⟨_, rfl, hw⟩
  · have hw := hw_5 c_3
    refine v_aload_n (q := 0) dX0_added_8 rfl rfl ?_
    refine v_bipush dX0_added_9 bp_m2 ?_
    obtain ⟨fs_43, e_44, hw⟩ := hw
    refine v_callV0 q396 q398 qs0 q104 q399 (ci := 0) rfl e_44 n_X0_refuse ⟨Nat.le_of_ble_eq_true rfl, Nat.le_of_ble_eq_true rfl⟩ [.int (-2)] [] (met_X0_refuse hw) rfl (Nat.zero_le _) rfl rfl dX0_added_11 rfl (v_ki (fun z_41 h_42 hv => ?_))
    clear hw
    have hw := hv
    clear hv
    exact v_iret dX0_added_14 rfl ⟨_, rfl, hw⟩
theorem met_X0_added {post : (Int32) → (AH) → Prop}   {b0 : Nat} {x1 : Int32} {x2 : Int32} {x3 : Int32} {h : AH}  (hw : w_X0_added post  b0 x1 x2 x3 h) : Mt l E yX0_added (ws_ yX0_added cX0_added 4 (some .int)) r_X0_added [va_rf (some b0), .int x1, .int x2, .int x3] h (vpi (fun (r : Int32) (h' : AH) => post r h')) := v_entry (by decide +kernel) (Nat.le_of_ble_eq_true rfl) rfl (fun _ => e_X0_added hw)
/-! X0_which -/
abbrev r_X0_which : Room := { frames := 207, cells := 48, slots := 240, locals := 8252 }
theorem n_X0_which : vdn yX0_which 1 := ⟨by decide +kernel, by decide +kernel, by decide +kernel⟩
def w_X0_which_46 (post : (Int32) → (AH) → Prop) (b0 : Nat) (x1 : Int32) : Nat → (Option Nat) → (Int32) → (AH) → (Nat) → (Nat) → Prop
 | 0, _, _, _, _, _ => False
 | n0 + 1, x2, x3, h, k, n =>
 (∃ a_1 : Nat, x2 = some a_1 ∧ (∃ (fs_2 : List Value) (r_5 : Option Nat), h a_1 = some (.inr (22, fs_2)) ∧ fs_2[0]? = some (va_rf r_5) ∧ (∃ a_6 : Nat, r_5 = some a_6 ∧ (∃ (fs_7 : List Value) (z_10 : Int32), h a_6 = some (.inr (9, fs_7)) ∧ fs_7[1]? = some (.int z_10) ∧ ((z_10 ≤ x3 → (∃ (fs_15 : List Value) (r_18 : Option Nat), h a_1 = some (.inr (22, fs_15)) ∧ fs_15[0]? = some (va_rf r_18) ∧ (∃ (fs_19 : List Value) (z_22 : Int32), h a_1 = some (.inr (22, fs_19)) ∧ fs_19[3]? = some (.int z_22) ∧ (∃ fs_65 : List Value, h b0 = some (.inr (0, fs_65)) ∧ (k + 24 ≤ 48 ∧ n + 120 ≤ 240 ∧ (w_X0_smooths (fun (r_23 : Option Nat) (h_24 : AH) => (∃ (fs_25 : List Value) (r_28 : Option Nat), h_24 a_1 = some (.inr (22, fs_25)) ∧ fs_25[1]? = some (va_rf r_28) ∧ (∃ a_29 : Nat, r_23 = some a_29 ∧ (∃ fs_61 : List Value, h_24 a_29 = some (.inr (9, fs_61)) ∧ (w_X8_isSame (fun (z_30 : Int32) => ((z_30 = 0 → (∃ (fs_35 : List Value) (r_38 : Option Nat), h_24 a_1 = some (.inr (22, fs_35)) ∧ fs_35[1]? = some (va_rf r_38) ∧ (∃ (fs_39 : List Value) (z_42 : Int32), h_24 a_1 = some (.inr (22, fs_39)) ∧ fs_39[3]? = some (.int z_42) ∧ (∃ fs_59 : List Value, h_24 b0 = some (.inr (0, fs_59)) ∧ ((k + 24) + 24 ≤ 48 ∧ (n + 120) + 120 ≤ 240 ∧ (w_X0_smooths (fun (r_43 : Option Nat) (h_44 : AH) => (∃ (fs_45 : List Value) (r_48 : Option Nat), h_44 a_1 = some (.inr (22, fs_45)) ∧ fs_45[0]? = some (va_rf r_48) ∧ (∃ a_49 : Nat, r_43 = some a_49 ∧ (∃ fs_55 : List Value, h_44 a_49 = some (.inr (9, fs_55)) ∧ (w_X8_isSame (fun (z_50 : Int32) => ((z_50 = 0 → (post (nI 2) h_44)) ∧ (¬ z_50 = 0 → (post (nI 1) h_44)))) a_49 r_48 h_44))))) b0 r_38 z_42 h_24)))))) ∧ (¬ z_30 = 0 → (post (nI 0) h_24)))) a_29 r_28 h_24))))) b0 r_18 z_22 h)))))) ∧ (¬ z_10 ≤ x3 → (∃ (fs_67 : List Value) (r_70 : Option Nat), h b0 = some (.inr (0, fs_67)) ∧ fs_67[1]? = some (va_rf r_70) ∧ (∃ a_71 : Nat, r_70 = some a_71 ∧ (∃ (fs_72 : List Value) (r_75 : Option Nat), h a_71 = some (.inr (1, fs_72)) ∧ fs_72[11]? = some (va_rf r_75) ∧ (∃ (fs_76 : List Value) (r_79 : Option Nat), h a_1 = some (.inr (22, fs_76)) ∧ fs_76[0]? = some (va_rf r_79) ∧ (∃ a_80 : Nat, r_79 = some a_80 ∧ (∃ (fs_81 : List Value) (r_84 : Option Nat), h a_80 = some (.inr (9, fs_81)) ∧ fs_81[0]? = some (va_rf r_84) ∧ (∃ a_85 : Nat, r_84 = some a_85 ∧ (∃ (N_86 : Nat) (g_87 : Nat → Int32), h a_85 = some (.inl (0, N_86, .inl g_87)) ∧ vp_in x3 N_86 ∧ (∃ a_90 : Nat, r_75 = some a_90 ∧ (∃ (N_91 : Nat) (g_92 : Nat → Int32), h a_90 = some (.inl (0, N_91, .inl g_92)) ∧ vp_in (g_87 (x3).toNatClampNeg) N_91 ∧ (∃ (fs_95 : List Value) (z_98 : Int32), h a_1 = some (.inr (22, fs_95)) ∧ fs_95[2]? = some (.int z_98) ∧ (((g_92 ((g_87 (x3).toNatClampNeg)).toNatClampNeg) ≤ z_98 → (∀ z_103 : Int32, z_103 = x3 + (nI 1) → (w_X0_which_46 post b0 x1 n0 (some a_1) z_103 h k n))) ∧ (¬ (g_92 ((g_87 (x3).toNatClampNeg)).toNatClampNeg) ≤ z_98 → (post (nI 1) h))))))))))))))))))))
def w_X0_which (post : (Int32) → (AH) → Prop) (b0 : Nat) (x1 : Int32) (h : AH) : Prop :=
 (∃ (fs_104 : List Value) (r_107 : Option Nat), h b0 = some (.inr (0, fs_104)) ∧ fs_104[1]? = some (va_rf r_107) ∧ (∃ a_108 : Nat, r_107 = some a_108 ∧ (∃ (fs_109 : List Value) (r_112 : Option Nat), h a_108 = some (.inr (1, fs_109)) ∧ fs_109[6]? = some (va_rf r_112) ∧ (∃ a_113 : Nat, r_112 = some a_113 ∧ (∃ fs_141 : List Value, h a_113 = some (.inr (2, fs_141)) ∧ (w_J2_size (fun (z_114 : Int32) => (w_X0_in (fun (z_115 : Int32) => ((¬ z_115 = 0 → (∃ (fs_120 : List Value) (r_123 : Option Nat), h b0 = some (.inr (0, fs_120)) ∧ fs_120[1]? = some (va_rf r_123) ∧ (∃ a_124 : Nat, r_123 = some a_124 ∧ (∃ (fs_125 : List Value) (r_128 : Option Nat), h a_124 = some (.inr (1, fs_125)) ∧ fs_125[6]? = some (va_rf r_128) ∧ (∃ a_129 : Nat, r_128 = some a_129 ∧ (∃ fs_135 : List Value, h a_129 = some (.inr (2, fs_135)) ∧ (w_J2_get (fun (r_130 : Option Nat) => (∃ a_131 : Nat, r_130 = some a_131 ∧ (∃ fs_132 : List Value, h a_131 = some (.inr (22, fs_132)) ∧ (∃ n1 : Nat, (w_X0_which_46 post b0 x1 n1 (some a_131) (nI 0) h 0 0))))) a_129 x1 h))))))) ∧ (z_115 = 0 → (∃ fs_139 : List Value, h b0 = some (.inr (0, fs_139)) ∧ (w_X0_refuse (fun (z_137 : Int32) (h_138 : AH) => (post z_137 h_138)) b0 (-2) h))))) ((x1).toInt64) (lN 0) (((z_114 - (nI 1))).toInt64))) a_113 h))))))
theorem b_X0_which_46 {post : (Int32) → (AH) → Prop}   {b0 : Nat} {x1 : Int32}    : ∀ (n0 : Nat) (x2 : Option Nat) (x3 : Int32) (h : AH) (k : Nat) (n : Nat), w_X0_which_46 post b0 x1 n0 x2 x3 h k n → VV l E X cX0_which RX0 "which" 4 r_X0_which (some .int) (vpi (fun (r : Int32) (h' : AH) => post r h')) h k n 46 [(0, va_rf (some b0)), (1, .int x1), (2, va_rf x2), (3, .int x3)] [] := by
  intro n0
  induction n0 with
  | zero =>
    intro x2 x3 h k n hw
    exact hw.elim
  | succ n0 ih =>
    intro x2 x3 h k n hw
    refine v_iload_n (q := 3) dX0_which_46 rfl rfl ?_
    refine v_aload_n (q := 2) dX0_which_47 rfl rfl ?_
    obtain ⟨a_1, ea_1, hw⟩ := hw
    subst ea_1
    obtain ⟨fs_2, r_5, e_3, e_4, hw⟩ := hw
    refine v_getN in_X22 (ci := 22) rfl 0 (Nat.le_of_ble_eq_true rfl) q1216 rfl dX0_which_48 e_3 e_4 ?_
    obtain ⟨a_6, ea_6, hw⟩ := hw
    subst ea_6
    obtain ⟨fs_7, z_10, e_8, e_9, hw⟩ := hw
    refine v_getN in_X8 (ci := 9) rfl 1 (Nat.le_of_ble_eq_true rfl) q548 rfl dX0_which_51 e_8 e_9 ?_
    obtain ⟨hw_13, hw_14⟩ := hw
    refine v_icmp_ge (tgt := 89) dX0_which_54 (by decide) (fun c_11 => ?_) (fun c_12 => ?_)
    · have hw := hw_13 c_11
      refine v_aload_n (q := 0) dX0_which_89 rfl rfl ?_
      refine v_aload_n (q := 2) dX0_which_90 rfl rfl ?_
      obtain ⟨fs_15, r_18, e_16, e_17, hw⟩ := hw
      refine v_getN in_X22 (ci := 22) rfl 0 (Nat.le_of_ble_eq_true rfl) q1216 rfl dX0_which_91 e_16 e_17 ?_
      refine v_aload_n (q := 2) dX0_which_94 rfl rfl ?_
      obtain ⟨fs_19, z_22, e_20, e_21, hw⟩ := hw
      refine v_getN in_X22 (ci := 22) rfl 3 (Nat.le_of_ble_eq_true rfl) q1222 rfl dX0_which_95 e_20 e_21 ?_
      obtain ⟨fs_65, e_66, hw⟩ := hw
      obtain ⟨e_63, e_64, hw⟩ := hw
      refine v_callV q911 q913 qs26 q104 q914 (ci := 0) rfl e_66 n_X0_smooths ⟨Nat.le_of_ble_eq_true rfl, Nat.le_of_ble_eq_true rfl⟩ [va_rf r_18, .int z_22] [] (met_X0_smooths hw) rfl (Nat.zero_le _) ⟨e_63, e_64⟩ dX0_which_98 rfl (v_kq (fun r_23 h_24 hv => ?_))
      clear hw
      have hw := hv
      clear hv
      refine v_aload_n (q := 2) dX0_which_101 rfl rfl ?_
      obtain ⟨fs_25, r_28, e_26, e_27, hw⟩ := hw
      refine v_getN in_X22 (ci := 22) rfl 1 (Nat.le_of_ble_eq_true rfl) q1218 rfl dX0_which_102 e_26 e_27 ?_
      obtain ⟨a_29, ea_29, hw⟩ := hw
      subst ea_29
      obtain ⟨fs_61, e_62, hw⟩ := hw
      refine v_callV0 q1236 q921 q922 q119 q923 (ci := 9) rfl e_62 n_X8_isSame ⟨Nat.le_of_ble_eq_true rfl, Nat.le_of_ble_eq_true rfl⟩ [va_rf r_28] [] (met_X8_isSame hw) rfl (Nat.zero_le _) rfl rfl dX0_which_105 rfl (v_ki (fun z_30 h1 hv => ?_))
      clear hw
      obtain ⟨e9, hw⟩ := hv
      refine v_heap e9 ?_
      clear e9
      obtain ⟨hw_33, hw_34⟩ := hw
      refine v_if_eq (tgt := 115) dX0_which_108 (by decide) (fun c_31 => ?_) (fun c_32 => ?_)
      · have hw := hw_33 c_31
        refine v_aload_n (q := 0) dX0_which_115 rfl rfl ?_
        refine v_aload_n (q := 2) dX0_which_116 rfl rfl ?_
        obtain ⟨fs_35, r_38, e_36, e_37, hw⟩ := hw
        refine v_getN in_X22 (ci := 22) rfl 1 (Nat.le_of_ble_eq_true rfl) q1218 rfl dX0_which_117 e_36 e_37 ?_
        refine v_aload_n (q := 2) dX0_which_120 rfl rfl ?_
        obtain ⟨fs_39, z_42, e_40, e_41, hw⟩ := hw
        refine v_getN in_X22 (ci := 22) rfl 3 (Nat.le_of_ble_eq_true rfl) q1222 rfl dX0_which_121 e_40 e_41 ?_
        obtain ⟨fs_59, e_60, hw⟩ := hw
        obtain ⟨e_57, e_58, hw⟩ := hw
        refine v_callV q911 q913 qs26 q104 q914 (ci := 0) rfl e_60 n_X0_smooths ⟨Nat.le_of_ble_eq_true rfl, Nat.le_of_ble_eq_true rfl⟩ [va_rf r_38, .int z_42] [] (met_X0_smooths hw) rfl (Nat.zero_le _) ⟨e_57, e_58⟩ dX0_which_124 rfl (v_kq (fun r_43 h_44 hv => ?_))
        clear hw
        have hw := hv
        clear hv
        refine v_aload_n (q := 2) dX0_which_127 rfl rfl ?_
        obtain ⟨fs_45, r_48, e_46, e_47, hw⟩ := hw
        refine v_getN in_X22 (ci := 22) rfl 0 (Nat.le_of_ble_eq_true rfl) q1216 rfl dX0_which_128 e_46 e_47 ?_
        obtain ⟨a_49, ea_49, hw⟩ := hw
        subst ea_49
        obtain ⟨fs_55, e_56, hw⟩ := hw
        refine v_callV0 q1236 q921 q922 q119 q923 (ci := 9) rfl e_56 n_X8_isSame ⟨Nat.le_of_ble_eq_true rfl, Nat.le_of_ble_eq_true rfl⟩ [va_rf r_48] [] (met_X8_isSame hw) rfl (Nat.zero_le _) rfl rfl dX0_which_131 rfl (v_ki (fun z_50 h1 hv => ?_))
        clear hw
        obtain ⟨e9, hw⟩ := hv
        refine v_heap e9 ?_
        clear e9
        obtain ⟨hw_53, hw_54⟩ := hw
        refine v_if_eq (tgt := 141) dX0_which_134 (by decide) (fun c_51 => ?_) (fun c_52 => ?_)
        · have hw := hw_53 c_51
          refine v_iconst dX0_which_141 ic_2 ?_
          exact v_iret dX0_which_142 rfl ⟨_, rfl, hw⟩
        · have hw := hw_54 c_52
          refine v_iconst dX0_which_137 ic_1 ?_
          refine v_goto (tgt := 142) dX0_which_138 (by decide) ?_
          exact v_iret dX0_which_142 rfl ⟨_, rfl, hw⟩
      · have hw := hw_34 c_32
        refine v_iconst dX0_which_111 ic_0 ?_
        refine v_goto (tgt := 142) dX0_which_112 (by decide) ?_
        exact v_iret dX0_which_142 rfl ⟨_, rfl, hw⟩
    · have hw := hw_14 c_12
      refine v_aload_n (q := 0) dX0_which_57 rfl rfl ?_
      obtain ⟨fs_67, r_70, e_68, e_69, hw⟩ := hw
      refine v_get in_X0 (ci := 0) rfl 1 (Nat.le_of_ble_eq_true rfl) q319 rfl dX0_which_58 e_68 e_69 ?_
      obtain ⟨a_71, ea_71, hw⟩ := hw
      subst ea_71
      obtain ⟨fs_72, r_75, e_73, e_74, hw⟩ := hw
      refine v_getN in_X1 (ci := 1) rfl 11 (Nat.le_of_ble_eq_true rfl) q242 rfl dX0_which_61 e_73 e_74 ?_
      refine v_aload_n (q := 2) dX0_which_64 rfl rfl ?_
      obtain ⟨fs_76, r_79, e_77, e_78, hw⟩ := hw
      refine v_getN in_X22 (ci := 22) rfl 0 (Nat.le_of_ble_eq_true rfl) q1216 rfl dX0_which_65 e_77 e_78 ?_
      obtain ⟨a_80, ea_80, hw⟩ := hw
      subst ea_80
      obtain ⟨fs_81, r_84, e_82, e_83, hw⟩ := hw
      refine v_getN in_X8 (ci := 9) rfl 0 (Nat.le_of_ble_eq_true rfl) q547 rfl dX0_which_68 e_82 e_83 ?_
      refine v_iload_n (q := 3) dX0_which_71 rfl rfl ?_
      obtain ⟨a_85, ea_85, hw⟩ := hw
      subst ea_85
      obtain ⟨N_86, g_87, e_88, hi_89, hw⟩ := hw
      refine v_iald dX0_which_72 e_88 hi_89 ?_
      obtain ⟨a_90, ea_90, hw⟩ := hw
      subst ea_90
      obtain ⟨N_91, g_92, e_93, hi_94, hw⟩ := hw
      refine v_iald dX0_which_73 e_93 hi_94 ?_
      refine v_aload_n (q := 2) dX0_which_74 rfl rfl ?_
      obtain ⟨fs_95, z_98, e_96, e_97, hw⟩ := hw
      refine v_getN in_X22 (ci := 22) rfl 2 (Nat.le_of_ble_eq_true rfl) q1220 rfl dX0_which_75 e_96 e_97 ?_
      obtain ⟨hw_101, hw_102⟩ := hw
      refine v_icmp_le (tgt := 83) dX0_which_78 (by decide) (fun c_99 => ?_) (fun c_100 => ?_)
      · have hw := hw_101 c_99
        obtain ⟨z_103, e_103⟩ : ∃ z9 : Int32, z9 = x3 + (nI 1) := ⟨_, rfl⟩
        replace hw := hw z_103 e_103
        refine v_iinc (q := 3) (v := z_103) (lv1 := [(3, .int z_103), (0, va_rf (some b0)), (1, .int x1), (2, va_rf (some a_1))]) dX0_which_83 rfl (by rw [e_103, ic_1]) (Nat.le_of_ble_eq_true rfl) rfl ?_
        refine v_goto (tgt := 46) dX0_which_86 (by decide) ?_
        refine v_sub [1, 2, 3, 0] rfl ?_
        exact ih (some a_1) z_103 h k n hw
      · have hw := hw_102 c_100
        refine v_iconst dX0_which_81 ic_1 ?_
        exact v_iret dX0_which_82 rfl ⟨_, rfl, hw⟩
theorem e_X0_which {post : (Int32) → (AH) → Prop}   {b0 : Nat} {x1 : Int32} {h : AH}  (hw : w_X0_which post  b0 x1 h) : VV l E X cX0_which RX0 "which" 4 r_X0_which (some .int) (vpi (fun (r : Int32) (h' : AH) => post r h')) h 0 0 0 [(0, va_rf (some b0)), (1, .int x1)] [] := by
  refine v_iload_n (q := 1) dX0_which_0 rfl rfl ?_
  refine v_i2l dX0_which_1 ?_
  refine v_lconst (v := lN 0) dX0_which_2 rfl ?_
  refine v_aload_n (q := 0) dX0_which_3 rfl rfl ?_
  obtain ⟨fs_104, r_107, e_105, e_106, hw⟩ := hw
  refine v_get in_X0 (ci := 0) rfl 1 (Nat.le_of_ble_eq_true rfl) q319 rfl dX0_which_4 e_105 e_106 ?_
  obtain ⟨a_108, ea_108, hw⟩ := hw
  subst ea_108
  obtain ⟨fs_109, r_112, e_110, e_111, hw⟩ := hw
  refine v_getN in_X1 (ci := 1) rfl 6 (Nat.le_of_ble_eq_true rfl) q232 rfl dX0_which_7 e_110 e_111 ?_
  obtain ⟨a_113, ea_113, hw⟩ := hw
  subst ea_113
  obtain ⟨fs_141, e_142, hw⟩ := hw
  refine v_callV0 q413 q414 q415 q108 q416 (ci := 2) rfl e_142 n_J2_size ⟨Nat.le_of_ble_eq_true rfl, Nat.le_of_ble_eq_true rfl⟩ [] [.long (lN 0), .long ((x1).toInt64)] (met_J2_size hw) rfl (Nat.le_of_ble_eq_true rfl) rfl rfl dX0_which_10 rfl (v_ki (fun z_114 h1 hv => ?_))
  clear hw
  obtain ⟨e9, hw⟩ := hv
  refine v_heap e9 ?_
  clear e9
  refine v_iconst dX0_which_13 ic_1 ?_
  refine v_isub dX0_which_14 ?_
  refine v_i2l dX0_which_15 ?_
  refine v_callS0 q393 q394 q104 q395 n_X0_in ⟨Nat.le_of_ble_eq_true rfl, Nat.le_of_ble_eq_true rfl⟩ [.long ((x1).toInt64), .long (lN 0), .long (((z_114 - (nI 1))).toInt64)] [] (met_X0_in hw) rfl (Nat.zero_le _) rfl rfl dX0_which_16 rfl (v_ki (fun z_115 h1 hv => ?_))
  clear hw
  obtain ⟨e9, hw⟩ := hv
  refine v_heap e9 ?_
  clear e9
  obtain ⟨hw_118, hw_119⟩ := hw
  refine v_if_ne (tgt := 29) dX0_which_19 (by decide) (fun c_116 => ?_) (fun c_117 => ?_)
  · have hw := hw_118 c_116
    refine v_aload_n (q := 0) dX0_which_29 rfl rfl ?_
    obtain ⟨fs_120, r_123, e_121, e_122, hw⟩ := hw
    refine v_get in_X0 (ci := 0) rfl 1 (Nat.le_of_ble_eq_true rfl) q319 rfl dX0_which_30 e_121 e_122 ?_
    obtain ⟨a_124, ea_124, hw⟩ := hw
    subst ea_124
    obtain ⟨fs_125, r_128, e_126, e_127, hw⟩ := hw
    refine v_getN in_X1 (ci := 1) rfl 6 (Nat.le_of_ble_eq_true rfl) q232 rfl dX0_which_33 e_126 e_127 ?_
    refine v_iload_n (q := 1) dX0_which_36 rfl rfl ?_
    obtain ⟨a_129, ea_129, hw⟩ := hw
    subst ea_129
    obtain ⟨fs_135, e_136, hw⟩ := hw
    refine v_callV0 q577 q578 q579 q108 q580 (ci := 2) rfl e_136 n_J2_get ⟨Nat.le_of_ble_eq_true rfl, Nat.le_of_ble_eq_true rfl⟩ [.int x1] [] (met_J2_get hw) rfl (Nat.zero_le _) rfl rfl dX0_which_37 rfl (v_kq (fun r_130 h1 hv => ?_))
    clear hw
    obtain ⟨e9, hw⟩ := hv
    refine v_heap e9 ?_
    clear e9
    obtain ⟨a_131, ea_131, hw⟩ := hw
    subst ea_131
    obtain ⟨fs_132, e_133, hw⟩ := hw
    refine v_cast (ci := 22) rfl q612 dX0_which_40 e_133 ?_
    refine v_astore_n (lv1 := [(2, va_rf (some a_131)), (0, va_rf (some b0)), (1, .int x1)]) dX0_which_43 rfl (Nat.le_of_ble_eq_true rfl) rfl ?_
    refine v_iconst dX0_which_44 ic_0 ?_
    refine v_istore_n (lv1 := [(3, .int (nI 0)), (2, va_rf (some a_131)), (0, va_rf (some b0)), (1, .int x1)]) dX0_which_45 rfl (Nat.le_of_ble_eq_true rfl) rfl ?_
    obtain ⟨n_134, hw⟩ := hw
    refine v_sub [2, 3, 1, 0] rfl ?_
    exact b_X0_which_46 n_134 (some a_131) (nI 0) h 0 0 hw
  · have hw := hw_119 c_117
    refine v_aload_n (q := 0) dX0_which_22 rfl rfl ?_
    refine v_bipush dX0_which_23 bp_m2 ?_
    obtain ⟨fs_139, e_140, hw⟩ := hw
    refine v_callV0 q396 q398 qs0 q104 q399 (ci := 0) rfl e_140 n_X0_refuse ⟨Nat.le_of_ble_eq_true rfl, Nat.le_of_ble_eq_true rfl⟩ [.int (-2)] [] (met_X0_refuse hw) rfl (Nat.zero_le _) rfl rfl dX0_which_25 rfl (v_ki (fun z_137 h_138 hv => ?_))
    clear hw
    have hw := hv
    clear hv
    exact v_iret dX0_which_28 rfl ⟨_, rfl, hw⟩
theorem met_X0_which {post : (Int32) → (AH) → Prop}   {b0 : Nat} {x1 : Int32} {h : AH}  (hw : w_X0_which post  b0 x1 h) : Mt l E yX0_which (ws_ yX0_which cX0_which 4 (some .int)) r_X0_which [va_rf (some b0), .int x1] h (vpi (fun (r : Int32) (h' : AH) => post r h')) := v_entry (by decide +kernel) (Nat.le_of_ble_eq_true rfl) rfl (fun _ => e_X0_which hw)
/-! X0_say -/
abbrev r_X0_say : Room := { frames := 208, cells := 11521, slots := 57601, locals := 8275 }
theorem n_X0_say : vdn yX0_say 1 := ⟨by decide +kernel, by decide +kernel, by decide +kernel⟩
def w_X0_say_80 (post : (Int32) → (AH) → Prop) (k36 : (Int32) → (Int32) → (AH) → (Nat) → (Nat) → Prop) (b0 : Nat) (x1 : Int32) (x3 : Int32) (s0 : Int32) (h : AH) (k : Nat) (n : Nat) : Prop :=
 (∀ z_1 : Int32, z_1 = x3 + (nI 1) → (k36 s0 z_1 h k n))
def w_X0_say_75 (post : (Int32) → (AH) → Prop) (k36 : (Int32) → (Int32) → (AH) → (Nat) → (Nat) → Prop) (b0 : Nat) (x1 : Int32) (x3 : Int32) (h : AH) (k : Nat) (n : Nat) : Prop :=
 (w_X0_say_80 post k36 b0 x1 x3 (nI 1) h k n)
def w_X0_say_151 (post : (Int32) → (AH) → Prop) (b0 : Nat) (x1 : Int32) (x3 : Option Nat) (h : AH) (k : Nat) (n : Nat) : Prop :=
 (∃ a_2 : Nat, x3 = some a_2 ∧ (w_Said (fun (z_3 : Int32) => (post z_3 h)) a_2 h))
def w_X0_say_36 (post : (Int32) → (AH) → Prop) (b0 : Nat) (x1 : Int32) : Nat → (Int32) → (Int32) → (AH) → (Nat) → (Nat) → Prop
 | 0, _, _, _, _, _ => False
 | n0 + 1, x2, x3, h, k, n =>
 (∃ (fs_4 : List Value) (r_7 : Option Nat), h b0 = some (.inr (0, fs_4)) ∧ fs_4[1]? = some (va_rf r_7) ∧ (∃ a_8 : Nat, r_7 = some a_8 ∧ (∃ (fs_9 : List Value) (r_12 : Option Nat), h a_8 = some (.inr (1, fs_9)) ∧ fs_9[3]? = some (va_rf r_12) ∧ (∃ a_13 : Nat, r_12 = some a_13 ∧ (∃ fs_146 : List Value, h a_13 = some (.inr (2, fs_146)) ∧ (w_J2_size (fun (z_14 : Int32) => ((z_14 ≤ x3 → ((¬ x2 = 0 → (∃ fs_117 : List Value, h b0 = some (.inr (0, fs_117)) ∧ (k + 11520 ≤ 11521 ∧ n + 57600 ≤ 57601 ∧ (w_X0_laySmooth (fun (h_23 : AH) => (∃ (fs_24 : List Value) (r_27 : Option Nat), h_23 b0 = some (.inr (0, fs_24)) ∧ fs_24[1]? = some (va_rf r_27) ∧ (∃ a_28 : Nat, r_27 = some a_28 ∧ (∃ (fs_29 : List Value) (r_32 : Option Nat), h_23 a_28 = some (.inr (1, fs_29)) ∧ fs_29[5]? = some (va_rf r_32) ∧ (∃ a_33 : Nat, r_32 = some a_33 ∧ (∃ fs_113 : List Value, h_23 a_33 = some (.inr (2, fs_113)) ∧ (w_J2_get (fun (r_34 : Option Nat) => (∃ a_35 : Nat, r_34 = some a_35 ∧ (∃ fs_36 : List Value, h_23 a_35 = some (.inr (10, fs_36)) ∧ (∃ fs_111 : List Value, h_23 b0 = some (.inr (0, fs_111)) ∧ ((k + 11520) + 1 ≤ 11521 ∧ (n + 57600) + 1 ≤ 57601 ∧ (w_X0_comes (fun (r_38 : Option Nat) (h_39 : AH) => (∃ a_40 : Nat, r_38 = some a_40 ∧ (∃ (ci_41 : Nat) (fs_42 : List Value), h_39 a_40 = some (.inr (ci_41, fs_42)) ∧ ((ci_41 = 5 ∧ (((nI 1) = 0 → (w_X0_say_151 post b0 x1 (some a_40) h_39 ((k + 11520) + 1) ((n + 57600) + 1))) ∧ (¬ (nI 1) = 0 → (∃ (fs_49 : List Value) (r_52 : Option Nat), h_39 b0 = some (.inr (0, fs_49)) ∧ fs_49[1]? = some (va_rf r_52) ∧ (∃ a_53 : Nat, r_52 = some a_53 ∧ (∃ (fs_54 : List Value) (r_57 : Option Nat), h_39 a_53 = some (.inr (1, fs_54)) ∧ fs_54[5]? = some (va_rf r_57) ∧ (∃ a_58 : Nat, r_57 = some a_58 ∧ (∃ fs_75 : List Value, h_39 a_58 = some (.inr (2, fs_75)) ∧ (w_J2_get (fun (r_59 : Option Nat) => (∃ a_60 : Nat, r_59 = some a_60 ∧ (∃ fs_61 : List Value, h_39 a_60 = some (.inr (10, fs_61)) ∧ (∃ (fs_63 : List Value) (r_66 : Option Nat), h_39 a_60 = some (.inr (10, fs_63)) ∧ fs_63[0]? = some (va_rf r_66) ∧ (∃ fs_73 : List Value, h_39 b0 = some (.inr (0, fs_73)) ∧ (w_X0_isInLate (fun (z_67 : Int32) (h_68 : AH) => ((z_67 = 0 → (w_X0_say_151 post b0 x1 (some a_40) h_68 ((k + 11520) + 1) ((n + 57600) + 1))) ∧ (¬ z_67 = 0 → (post (nI 5) h_68)))) b0 r_66 h_39)))))) a_58 x1 h_39))))))))) ∨ (vnown ci_41 = true ∧ (((nI 0) = 0 → (w_X0_say_151 post b0 x1 (some a_40) h_39 ((k + 11520) + 1) ((n + 57600) + 1))) ∧ (¬ (nI 0) = 0 → (∃ (fs_81 : List Value) (r_84 : Option Nat), h_39 b0 = some (.inr (0, fs_81)) ∧ fs_81[1]? = some (va_rf r_84) ∧ (∃ a_85 : Nat, r_84 = some a_85 ∧ (∃ (fs_86 : List Value) (r_89 : Option Nat), h_39 a_85 = some (.inr (1, fs_86)) ∧ fs_86[5]? = some (va_rf r_89) ∧ (∃ a_90 : Nat, r_89 = some a_90 ∧ (∃ fs_107 : List Value, h_39 a_90 = some (.inr (2, fs_107)) ∧ (w_J2_get (fun (r_91 : Option Nat) => (∃ a_92 : Nat, r_91 = some a_92 ∧ (∃ fs_93 : List Value, h_39 a_92 = some (.inr (10, fs_93)) ∧ (∃ (fs_95 : List Value) (r_98 : Option Nat), h_39 a_92 = some (.inr (10, fs_95)) ∧ fs_95[0]? = some (va_rf r_98) ∧ (∃ fs_105 : List Value, h_39 b0 = some (.inr (0, fs_105)) ∧ (w_X0_isInLate (fun (z_99 : Int32) (h_100 : AH) => ((z_99 = 0 → (w_X0_say_151 post b0 x1 (some a_40) h_100 ((k + 11520) + 1) ((n + 57600) + 1))) ∧ (¬ z_99 = 0 → (post (nI 5) h_100)))) b0 r_98 h_39)))))) a_90 x1 h_39))))))))))))) b0 (some a_35) h_23)))))) a_33 x1 h_23))))))) b0 h)))) ∧ (x2 = 0 → (post (nI 0) h)))) ∧ (¬ z_14 ≤ x3 → ((¬ x2 = 0 → (w_X0_say_75 post (fun (q0 : Int32) (q1 : Int32) (q2 : AH) (q3 : Nat) (q4 : Nat) => w_X0_say_36 post b0 x1 n0 q0 q1 q2 q3 q4) b0 x1 x3 h k n)) ∧ (x2 = 0 → (∃ (fs_123 : List Value) (r_126 : Option Nat), h b0 = some (.inr (0, fs_123)) ∧ fs_123[1]? = some (va_rf r_126) ∧ (∃ a_127 : Nat, r_126 = some a_127 ∧ (∃ (fs_128 : List Value) (r_131 : Option Nat), h a_127 = some (.inr (1, fs_128)) ∧ fs_128[3]? = some (va_rf r_131) ∧ (∃ a_132 : Nat, r_131 = some a_132 ∧ (∃ fs_144 : List Value, h a_132 = some (.inr (2, fs_144)) ∧ (w_J2_get (fun (r_133 : Option Nat) => (∃ a_134 : Nat, r_133 = some a_134 ∧ (∃ fs_135 : List Value, h a_134 = some (.inr (8, fs_135)) ∧ (∃ fs_142 : List Value, h b0 = some (.inr (0, fs_142)) ∧ (w_X0_isEarly (fun (z_137 : Int32) => ((z_137 = 0 → (w_X0_say_80 post (fun (q0 : Int32) (q1 : Int32) (q2 : AH) (q3 : Nat) (q4 : Nat) => w_X0_say_36 post b0 x1 n0 q0 q1 q2 q3 q4) b0 x1 x3 (nI 0) h k n)) ∧ (¬ z_137 = 0 → (w_X0_say_75 post (fun (q0 : Int32) (q1 : Int32) (q2 : AH) (q3 : Nat) (q4 : Nat) => w_X0_say_36 post b0 x1 n0 q0 q1 q2 q3 q4) b0 x1 x3 h k n)))) b0 (some a_134) h))))) a_132 x3 h))))))))))) a_13 h))))))
def w_X0_say_33 (post : (Int32) → (AH) → Prop) (b0 : Nat) (x1 : Int32) (s0 : Int32) (h : AH) (k : Nat) (n : Nat) : Prop :=
 (∃ n1 : Nat, (w_X0_say_36 post b0 x1 n1 s0 (nI 0) h k n))
def w_X0_say (post : (Int32) → (AH) → Prop) (b0 : Nat) (x1 : Int32) (h : AH) : Prop :=
 (∃ fs_175 : List Value, h b0 = some (.inr (0, fs_175)) ∧ (w_X0_isPrinted (fun (z_149 : Int32) => ((¬ z_149 = 0 → (∃ (fs_154 : List Value) (r_157 : Option Nat), h b0 = some (.inr (0, fs_154)) ∧ fs_154[1]? = some (va_rf r_157) ∧ (∃ a_158 : Nat, r_157 = some a_158 ∧ (∃ (fs_159 : List Value) (r_162 : Option Nat), h a_158 = some (.inr (1, fs_159)) ∧ fs_159[4]? = some (va_rf r_162) ∧ (∃ a_163 : Nat, r_162 = some a_163 ∧ (∃ fs_169 : List Value, h a_163 = some (.inr (2, fs_169)) ∧ (w_J2_isEmpty (fun (z_164 : Int32) => ((¬ z_164 = 0 → (w_X0_say_33 post b0 x1 (nI 0) h 0 0)) ∧ (z_164 = 0 → (w_X0_say_33 post b0 x1 (nI 1) h 0 0)))) a_163 h))))))) ∧ (z_149 = 0 → (∃ fs_173 : List Value, h b0 = some (.inr (0, fs_173)) ∧ (w_X0_refuse (fun (z_171 : Int32) (h_172 : AH) => (post z_171 h_172)) b0 (-2) h))))) b0 x1 h))
theorem b_X0_say_80 {post : (Int32) → (AH) → Prop}   {b0 : Nat} {x1 : Int32} {k36 : (Int32) → (Int32) → (AH) → (Nat) → (Nat) → Prop}  (hk36 : ∀ (x2 : Int32) (x3 : Int32) (h : AH) (k : Nat) (n : Nat), k36 x2 x3 h k n → VV l E X cX0_say RX0 "say" 4 r_X0_say (some .int) (vpi (fun (r : Int32) (h' : AH) => post r h')) h k n 36 [(0, va_rf (some b0)), (1, .int x1), (2, .int x2), (3, .int x3)] []) (x3 : Int32) (s0 : Int32) (h : AH) (k : Nat) (n : Nat) (hw : w_X0_say_80 post k36 b0 x1 x3 s0 h k n) : VV l E X cX0_say RX0 "say" 4 r_X0_say (some .int) (vpi (fun (r : Int32) (h' : AH) => post r h')) h k n 80 [(0, va_rf (some b0)), (1, .int x1), (3, .int x3)] [.int s0] := by
  refine v_istore_n (lv1 := [(2, .int s0), (0, va_rf (some b0)), (1, .int x1), (3, .int x3)]) dX0_say_80 rfl (Nat.le_of_ble_eq_true rfl) rfl ?_
  obtain ⟨z_1, e_1⟩ : ∃ z9 : Int32, z9 = x3 + (nI 1) := ⟨_, rfl⟩
  replace hw := hw z_1 e_1
  refine v_iinc (q := 3) (v := z_1) (lv1 := [(3, .int z_1), (2, .int s0), (0, va_rf (some b0)), (1, .int x1)]) dX0_say_81 rfl (by rw [e_1, ic_1]) (Nat.le_of_ble_eq_true rfl) rfl ?_
  refine v_goto (tgt := 36) dX0_say_84 (by decide) ?_
  refine v_sub [2, 3, 1, 0] rfl ?_
  exact hk36 s0 z_1 h k n hw
theorem b_X0_say_75 {post : (Int32) → (AH) → Prop}   {b0 : Nat} {x1 : Int32} {k36 : (Int32) → (Int32) → (AH) → (Nat) → (Nat) → Prop}  (hk36 : ∀ (x2 : Int32) (x3 : Int32) (h : AH) (k : Nat) (n : Nat), k36 x2 x3 h k n → VV l E X cX0_say RX0 "say" 4 r_X0_say (some .int) (vpi (fun (r : Int32) (h' : AH) => post r h')) h k n 36 [(0, va_rf (some b0)), (1, .int x1), (2, .int x2), (3, .int x3)] []) (x3 : Int32) (h : AH) (k : Nat) (n : Nat) (hw : w_X0_say_75 post k36 b0 x1 x3 h k n) : VV l E X cX0_say RX0 "say" 4 r_X0_say (some .int) (vpi (fun (r : Int32) (h' : AH) => post r h')) h k n 75 [(0, va_rf (some b0)), (1, .int x1), (3, .int x3)] [] := by
  refine v_iconst dX0_say_75 ic_1 ?_
  refine v_goto (tgt := 80) dX0_say_76 (by decide) ?_
  refine v_sub [0, 1, 2] rfl ?_
  exact b_X0_say_80 hk36 x3 (nI 1) h k n hw
theorem b_X0_say_151 {post : (Int32) → (AH) → Prop}   {b0 : Nat} {x1 : Int32}    (x3 : Option Nat) (h : AH) (k : Nat) (n : Nat) (hw : w_X0_say_151 post b0 x1 x3 h k n) : VV l E X cX0_say RX0 "say" 4 r_X0_say (some .int) (vpi (fun (r : Int32) (h' : AH) => post r h')) h k n 151 [(0, va_rf (some b0)), (1, .int x1), (3, va_rf x3)] [] := by
  refine v_aload_n (q := 2) dX0_say_151 rfl rfl ?_
  obtain ⟨a_2, ea_2, hw⟩ := hw
  subst ea_2
  refine v_Said q1546 ⟨Nat.le_of_ble_eq_true rfl, Nat.le_of_ble_eq_true rfl⟩ [] hw (Nat.zero_le _) dX0_say_152 (fun z_3 hv => ?_)
  clear hw
  have hw := hv
  clear hv
  exact v_iret dX0_say_157 rfl ⟨_, rfl, hw⟩
theorem b_X0_say_36 {post : (Int32) → (AH) → Prop}   {b0 : Nat} {x1 : Int32}    : ∀ (n0 : Nat) (x2 : Int32) (x3 : Int32) (h : AH) (k : Nat) (n : Nat), w_X0_say_36 post b0 x1 n0 x2 x3 h k n → VV l E X cX0_say RX0 "say" 4 r_X0_say (some .int) (vpi (fun (r : Int32) (h' : AH) => post r h')) h k n 36 [(0, va_rf (some b0)), (1, .int x1), (2, .int x2), (3, .int x3)] [] := by
  intro n0
  induction n0 with
  | zero =>
    intro x2 x3 h k n hw
    exact hw.elim
  | succ n0 ih =>
    intro x2 x3 h k n hw
    refine v_iload_n (q := 3) dX0_say_36 rfl rfl ?_
    refine v_aload_n (q := 0) dX0_say_37 rfl rfl ?_
    obtain ⟨fs_4, r_7, e_5, e_6, hw⟩ := hw
    refine v_get in_X0 (ci := 0) rfl 1 (Nat.le_of_ble_eq_true rfl) q319 rfl dX0_say_38 e_5 e_6 ?_
    obtain ⟨a_8, ea_8, hw⟩ := hw
    subst ea_8
    obtain ⟨fs_9, r_12, e_10, e_11, hw⟩ := hw
    refine v_getN in_X1 (ci := 1) rfl 3 (Nat.le_of_ble_eq_true rfl) q226 rfl dX0_say_41 e_10 e_11 ?_
    obtain ⟨a_13, ea_13, hw⟩ := hw
    subst ea_13
    obtain ⟨fs_146, e_147, hw⟩ := hw
    refine v_callV0 q413 q414 q415 q108 q416 (ci := 2) rfl e_147 n_J2_size ⟨Nat.le_of_ble_eq_true rfl, Nat.le_of_ble_eq_true rfl⟩ [] [.int x3] (met_J2_size hw) rfl (Nat.le_of_ble_eq_true rfl) rfl rfl dX0_say_44 rfl (v_ki (fun z_14 h1 hv => ?_))
    clear hw
    obtain ⟨e9, hw⟩ := hv
    refine v_heap e9 ?_
    clear e9
    obtain ⟨hw_17, hw_18⟩ := hw
    refine v_icmp_ge (tgt := 87) dX0_say_47 (by decide) (fun c_15 => ?_) (fun c_16 => ?_)
    · have hw := hw_17 c_15
      refine v_iload_n (q := 2) dX0_say_87 rfl rfl ?_
      obtain ⟨hw_21, hw_22⟩ := hw
      refine v_if_ne (tgt := 93) dX0_say_88 (by decide) (fun c_19 => ?_) (fun c_20 => ?_)
      · have hw := hw_21 c_19
        refine v_aload_n (q := 0) dX0_say_93 rfl rfl ?_
        obtain ⟨fs_117, e_118, hw⟩ := hw
        obtain ⟨e_115, e_116, hw⟩ := hw
        refine v_callV q1011 q1013 qs32 q104 q1014 (ci := 0) rfl e_118 n_X0_laySmooth ⟨Nat.le_of_ble_eq_true rfl, Nat.le_of_ble_eq_true rfl⟩ [] [] (met_X0_laySmooth hw) rfl (Nat.zero_le _) ⟨e_115, e_116⟩ dX0_say_94 rfl (v_kv (fun h_23 hv => ?_))
        clear hw
        have hw := hv
        clear hv
        refine v_aload_n (q := 0) dX0_say_97 rfl rfl ?_
        refine v_aload_n (q := 0) dX0_say_98 rfl rfl ?_
        obtain ⟨fs_24, r_27, e_25, e_26, hw⟩ := hw
        refine v_get in_X0 (ci := 0) rfl 1 (Nat.le_of_ble_eq_true rfl) q319 rfl dX0_say_99 e_25 e_26 ?_
        obtain ⟨a_28, ea_28, hw⟩ := hw
        subst ea_28
        obtain ⟨fs_29, r_32, e_30, e_31, hw⟩ := hw
        refine v_getN in_X1 (ci := 1) rfl 5 (Nat.le_of_ble_eq_true rfl) q230 rfl dX0_say_102 e_30 e_31 ?_
        refine v_iload_n (q := 1) dX0_say_105 rfl rfl ?_
        obtain ⟨a_33, ea_33, hw⟩ := hw
        subst ea_33
        obtain ⟨fs_113, e_114, hw⟩ := hw
        refine v_callV0 q577 q578 q579 q108 q580 (ci := 2) rfl e_114 n_J2_get ⟨Nat.le_of_ble_eq_true rfl, Nat.le_of_ble_eq_true rfl⟩ [.int x1] [va_rf (some b0)] (met_J2_get hw) rfl (by simp only [List.map_cons, List.map_nil, List.sum_cons, List.sum_nil, v_rf1, v_cI, v_cJ]; decide) rfl rfl dX0_say_106 rfl (v_kq (fun r_34 h1 hv => ?_))
        clear hw
        obtain ⟨e9, hw⟩ := hv
        refine v_heap e9 ?_
        clear e9
        obtain ⟨a_35, ea_35, hw⟩ := hw
        subst ea_35
        obtain ⟨fs_36, e_37, hw⟩ := hw
        refine v_cast (ci := 10) rfl q562 dX0_say_109 e_37 ?_
        obtain ⟨fs_111, e_112, hw⟩ := hw
        obtain ⟨e_109, e_110, hw⟩ := hw
        refine v_callV q1019 q1021 qs34 q104 q1022 (ci := 0) rfl e_112 n_X0_comes ⟨Nat.le_of_ble_eq_true rfl, Nat.le_of_ble_eq_true rfl⟩ [va_rf (some a_35)] [] (met_X0_comes hw) rfl (Nat.zero_le _) ⟨e_109, e_110⟩ dX0_say_112 rfl (v_kq (fun r_38 h_39 hv => ?_))
        clear hw
        have hw := hv
        clear hv
        refine v_astore_n (lv1 := [(3, va_rf r_38), (0, va_rf (some b0)), (1, .int x1), (2, .int x2)]) dX0_say_115 rfl (Nat.le_of_ble_eq_true rfl) rfl ?_
        refine v_aload_n (q := 0) dX0_say_116 rfl rfl ?_
        obtain ⟨a_40, ea_40, hw⟩ := hw
        subst ea_40
        obtain ⟨ci_41, fs_42, e_43, hw⟩ := hw
        rcases hw with ⟨rfl, hw⟩ | ⟨e_44, hw⟩
        · refine v_instS (ci := 5) rfl q297 dX0_say_117 e_43 ?_
          obtain ⟨hw_47, hw_48⟩ := hw
          refine v_if_eq (tgt := 151) dX0_say_120 (by decide) (fun c_45 => ?_) (fun c_46 => ?_)
          · have hw := hw_47 c_45
            refine v_sub [1, 2, 0] rfl ?_
            exact b_X0_say_151 (some a_40) h_39 ((k + 11520) + 1) ((n + 57600) + 1) hw
          · have hw := hw_48 c_46
            refine v_aload_n (q := 1) dX0_say_123 rfl rfl ?_
            refine v_aload_n (q := 1) dX0_say_124 rfl rfl ?_
            obtain ⟨fs_49, r_52, e_50, e_51, hw⟩ := hw
            refine v_get in_X0 (ci := 0) rfl 1 (Nat.le_of_ble_eq_true rfl) q319 rfl dX0_say_125 e_50 e_51 ?_
            obtain ⟨a_53, ea_53, hw⟩ := hw
            subst ea_53
            obtain ⟨fs_54, r_57, e_55, e_56, hw⟩ := hw
            refine v_getN in_X1 (ci := 1) rfl 5 (Nat.le_of_ble_eq_true rfl) q230 rfl dX0_say_128 e_55 e_56 ?_
            refine v_iload_n (q := 2) dX0_say_131 rfl rfl ?_
            obtain ⟨a_58, ea_58, hw⟩ := hw
            subst ea_58
            obtain ⟨fs_75, e_76, hw⟩ := hw
            refine v_callV0 q577 q578 q579 q108 q580 (ci := 2) rfl e_76 n_J2_get ⟨Nat.le_of_ble_eq_true rfl, Nat.le_of_ble_eq_true rfl⟩ [.int x1] [va_rf (some b0)] (met_J2_get hw) rfl (by simp only [List.map_cons, List.map_nil, List.sum_cons, List.sum_nil, v_rf1, v_cI, v_cJ]; decide) rfl rfl dX0_say_132 rfl (v_kq (fun r_59 h1 hv => ?_))
            clear hw
            obtain ⟨e9, hw⟩ := hv
            refine v_heap e9 ?_
            clear e9
            obtain ⟨a_60, ea_60, hw⟩ := hw
            subst ea_60
            obtain ⟨fs_61, e_62, hw⟩ := hw
            refine v_cast (ci := 10) rfl q562 dX0_say_135 e_62 ?_
            obtain ⟨fs_63, r_66, e_64, e_65, hw⟩ := hw
            refine v_getN in_X9 (ci := 10) rfl 0 (Nat.le_of_ble_eq_true rfl) q569 rfl dX0_say_138 e_64 e_65 ?_
            obtain ⟨fs_73, e_74, hw⟩ := hw
            refine v_callV0 q1541 q1543 qs52 q104 q1544 (ci := 0) rfl e_74 n_X0_isInLate ⟨Nat.le_of_ble_eq_true rfl, Nat.le_of_ble_eq_true rfl⟩ [va_rf r_66] [] (met_X0_isInLate hw) rfl (Nat.zero_le _) rfl rfl dX0_say_141 rfl (v_ki (fun z_67 h_68 hv => ?_))
            clear hw
            have hw := hv
            clear hv
            obtain ⟨hw_71, hw_72⟩ := hw
            refine v_if_eq (tgt := 151) dX0_say_144 (by decide) (fun c_69 => ?_) (fun c_70 => ?_)
            · have hw := hw_71 c_69
              refine v_sub [1, 2, 0] rfl ?_
              exact b_X0_say_151 (some a_40) h_68 ((k + 11520) + 1) ((n + 57600) + 1) hw
            · have hw := hw_72 c_70
              refine v_iconst dX0_say_147 ic_5 ?_
              refine v_goto (tgt := 157) dX0_say_148 (by decide) ?_
              exact v_iret dX0_say_157 rfl ⟨_, rfl, hw⟩
        · refine v_instNoOwn e_44 q297 dX0_say_117 e_43 ?_
          obtain ⟨hw_79, hw_80⟩ := hw
          refine v_if_eq (tgt := 151) dX0_say_120 (by decide) (fun c_77 => ?_) (fun c_78 => ?_)
          · have hw := hw_79 c_77
            refine v_sub [1, 2, 0] rfl ?_
            exact b_X0_say_151 (some a_40) h_39 ((k + 11520) + 1) ((n + 57600) + 1) hw
          · have hw := hw_80 c_78
            refine v_aload_n (q := 1) dX0_say_123 rfl rfl ?_
            refine v_aload_n (q := 1) dX0_say_124 rfl rfl ?_
            obtain ⟨fs_81, r_84, e_82, e_83, hw⟩ := hw
            refine v_get in_X0 (ci := 0) rfl 1 (Nat.le_of_ble_eq_true rfl) q319 rfl dX0_say_125 e_82 e_83 ?_
            obtain ⟨a_85, ea_85, hw⟩ := hw
            subst ea_85
            obtain ⟨fs_86, r_89, e_87, e_88, hw⟩ := hw
            refine v_getN in_X1 (ci := 1) rfl 5 (Nat.le_of_ble_eq_true rfl) q230 rfl dX0_say_128 e_87 e_88 ?_
            refine v_iload_n (q := 2) dX0_say_131 rfl rfl ?_
            obtain ⟨a_90, ea_90, hw⟩ := hw
            subst ea_90
            obtain ⟨fs_107, e_108, hw⟩ := hw
            refine v_callV0 q577 q578 q579 q108 q580 (ci := 2) rfl e_108 n_J2_get ⟨Nat.le_of_ble_eq_true rfl, Nat.le_of_ble_eq_true rfl⟩ [.int x1] [va_rf (some b0)] (met_J2_get hw) rfl (by simp only [List.map_cons, List.map_nil, List.sum_cons, List.sum_nil, v_rf1, v_cI, v_cJ]; decide) rfl rfl dX0_say_132 rfl (v_kq (fun r_91 h1 hv => ?_))
            clear hw
            obtain ⟨e9, hw⟩ := hv
            refine v_heap e9 ?_
            clear e9
            obtain ⟨a_92, ea_92, hw⟩ := hw
            subst ea_92
            obtain ⟨fs_93, e_94, hw⟩ := hw
            refine v_cast (ci := 10) rfl q562 dX0_say_135 e_94 ?_
            obtain ⟨fs_95, r_98, e_96, e_97, hw⟩ := hw
            refine v_getN in_X9 (ci := 10) rfl 0 (Nat.le_of_ble_eq_true rfl) q569 rfl dX0_say_138 e_96 e_97 ?_
            obtain ⟨fs_105, e_106, hw⟩ := hw
            refine v_callV0 q1541 q1543 qs52 q104 q1544 (ci := 0) rfl e_106 n_X0_isInLate ⟨Nat.le_of_ble_eq_true rfl, Nat.le_of_ble_eq_true rfl⟩ [va_rf r_98] [] (met_X0_isInLate hw) rfl (Nat.zero_le _) rfl rfl dX0_say_141 rfl (v_ki (fun z_99 h_100 hv => ?_))
            clear hw
            have hw := hv
            clear hv
            obtain ⟨hw_103, hw_104⟩ := hw
            refine v_if_eq (tgt := 151) dX0_say_144 (by decide) (fun c_101 => ?_) (fun c_102 => ?_)
            · have hw := hw_103 c_101
              refine v_sub [1, 2, 0] rfl ?_
              exact b_X0_say_151 (some a_40) h_100 ((k + 11520) + 1) ((n + 57600) + 1) hw
            · have hw := hw_104 c_102
              refine v_iconst dX0_say_147 ic_5 ?_
              refine v_goto (tgt := 157) dX0_say_148 (by decide) ?_
              exact v_iret dX0_say_157 rfl ⟨_, rfl, hw⟩
      · have hw := hw_22 c_20
        refine v_iconst dX0_say_91 ic_0 ?_
        exact v_iret dX0_say_92 rfl ⟨_, rfl, hw⟩
    · have hw := hw_18 c_16
      refine v_iload_n (q := 2) dX0_say_50 rfl rfl ?_
      obtain ⟨hw_121, hw_122⟩ := hw
      refine v_if_ne (tgt := 75) dX0_say_51 (by decide) (fun c_119 => ?_) (fun c_120 => ?_)
      · have hw := hw_121 c_119
        refine v_sub [0, 1, 3] rfl ?_
        exact b_X0_say_75 (fun q0 q1 q2 q3 q4 z => ih q0 q1 q2 q3 q4 z) x3 h k n hw
      · have hw := hw_122 c_120
        refine v_aload_n (q := 0) dX0_say_54 rfl rfl ?_
        refine v_aload_n (q := 0) dX0_say_55 rfl rfl ?_
        obtain ⟨fs_123, r_126, e_124, e_125, hw⟩ := hw
        refine v_get in_X0 (ci := 0) rfl 1 (Nat.le_of_ble_eq_true rfl) q319 rfl dX0_say_56 e_124 e_125 ?_
        obtain ⟨a_127, ea_127, hw⟩ := hw
        subst ea_127
        obtain ⟨fs_128, r_131, e_129, e_130, hw⟩ := hw
        refine v_getN in_X1 (ci := 1) rfl 3 (Nat.le_of_ble_eq_true rfl) q226 rfl dX0_say_59 e_129 e_130 ?_
        refine v_iload_n (q := 3) dX0_say_62 rfl rfl ?_
        obtain ⟨a_132, ea_132, hw⟩ := hw
        subst ea_132
        obtain ⟨fs_144, e_145, hw⟩ := hw
        refine v_callV0 q577 q578 q579 q108 q580 (ci := 2) rfl e_145 n_J2_get ⟨Nat.le_of_ble_eq_true rfl, Nat.le_of_ble_eq_true rfl⟩ [.int x3] [va_rf (some b0)] (met_J2_get hw) rfl (by simp only [List.map_cons, List.map_nil, List.sum_cons, List.sum_nil, v_rf1, v_cI, v_cJ]; decide) rfl rfl dX0_say_63 rfl (v_kq (fun r_133 h1 hv => ?_))
        clear hw
        obtain ⟨e9, hw⟩ := hv
        refine v_heap e9 ?_
        clear e9
        obtain ⟨a_134, ea_134, hw⟩ := hw
        subst ea_134
        obtain ⟨fs_135, e_136, hw⟩ := hw
        refine v_cast (ci := 8) rfl q417 dX0_say_66 e_136 ?_
        obtain ⟨fs_142, e_143, hw⟩ := hw
        refine v_callV0 q1015 q1017 qs33 q104 q1018 (ci := 0) rfl e_143 n_X0_isEarly ⟨Nat.le_of_ble_eq_true rfl, Nat.le_of_ble_eq_true rfl⟩ [va_rf (some a_134)] [] (met_X0_isEarly hw) rfl (Nat.zero_le _) rfl rfl dX0_say_69 rfl (v_ki (fun z_137 h1 hv => ?_))
        clear hw
        obtain ⟨e9, hw⟩ := hv
        refine v_heap e9 ?_
        clear e9
        obtain ⟨hw_140, hw_141⟩ := hw
        refine v_if_eq (tgt := 79) dX0_say_72 (by decide) (fun c_138 => ?_) (fun c_139 => ?_)
        · have hw := hw_140 c_138
          refine v_iconst dX0_say_79 ic_0 ?_
          refine v_sub [0, 1, 3] rfl ?_
          exact b_X0_say_80 (fun q0 q1 q2 q3 q4 z => ih q0 q1 q2 q3 q4 z) x3 (nI 0) h k n hw
        · have hw := hw_141 c_139
          refine v_sub [0, 1, 3] rfl ?_
          exact b_X0_say_75 (fun q0 q1 q2 q3 q4 z => ih q0 q1 q2 q3 q4 z) x3 h k n hw
theorem b_X0_say_33 {post : (Int32) → (AH) → Prop}   {b0 : Nat} {x1 : Int32}    (s0 : Int32) (h : AH) (k : Nat) (n : Nat) (hw : w_X0_say_33 post b0 x1 s0 h k n) : VV l E X cX0_say RX0 "say" 4 r_X0_say (some .int) (vpi (fun (r : Int32) (h' : AH) => post r h')) h k n 33 [(0, va_rf (some b0)), (1, .int x1)] [.int s0] := by
  refine v_istore_n (lv1 := [(2, .int s0), (0, va_rf (some b0)), (1, .int x1)]) dX0_say_33 rfl (Nat.le_of_ble_eq_true rfl) rfl ?_
  refine v_iconst dX0_say_34 ic_0 ?_
  refine v_istore_n (lv1 := [(3, .int (nI 0)), (2, .int s0), (0, va_rf (some b0)), (1, .int x1)]) dX0_say_35 rfl (Nat.le_of_ble_eq_true rfl) rfl ?_
  obtain ⟨n_148, hw⟩ := hw
  refine v_sub [2, 3, 1, 0] rfl ?_
  exact b_X0_say_36 n_148 s0 (nI 0) h k n hw
theorem e_X0_say {post : (Int32) → (AH) → Prop}   {b0 : Nat} {x1 : Int32} {h : AH}  (hw : w_X0_say post  b0 x1 h) : VV l E X cX0_say RX0 "say" 4 r_X0_say (some .int) (vpi (fun (r : Int32) (h' : AH) => post r h')) h 0 0 0 [(0, va_rf (some b0)), (1, .int x1)] [] := by
  refine v_aload_n (q := 0) dX0_say_0 rfl rfl ?_
  refine v_iload_n (q := 1) dX0_say_1 rfl rfl ?_
  obtain ⟨fs_175, e_176, hw⟩ := hw
  refine v_callV0 q608 q610 qs7 q104 q611 (ci := 0) rfl e_176 n_X0_isPrinted ⟨Nat.le_of_ble_eq_true rfl, Nat.le_of_ble_eq_true rfl⟩ [.int x1] [] (met_X0_isPrinted hw) rfl (Nat.zero_le _) rfl rfl dX0_say_2 rfl (v_ki (fun z_149 h1 hv => ?_))
  clear hw
  obtain ⟨e9, hw⟩ := hv
  refine v_heap e9 ?_
  clear e9
  obtain ⟨hw_152, hw_153⟩ := hw
  refine v_if_ne (tgt := 15) dX0_say_5 (by decide) (fun c_150 => ?_) (fun c_151 => ?_)
  · have hw := hw_152 c_150
    refine v_aload_n (q := 0) dX0_say_15 rfl rfl ?_
    obtain ⟨fs_154, r_157, e_155, e_156, hw⟩ := hw
    refine v_get in_X0 (ci := 0) rfl 1 (Nat.le_of_ble_eq_true rfl) q319 rfl dX0_say_16 e_155 e_156 ?_
    obtain ⟨a_158, ea_158, hw⟩ := hw
    subst ea_158
    obtain ⟨fs_159, r_162, e_160, e_161, hw⟩ := hw
    refine v_getN in_X1 (ci := 1) rfl 4 (Nat.le_of_ble_eq_true rfl) q228 rfl dX0_say_19 e_160 e_161 ?_
    obtain ⟨a_163, ea_163, hw⟩ := hw
    subst ea_163
    obtain ⟨fs_169, e_170, hw⟩ := hw
    refine v_callV0 q986 q987 q988 q108 q989 (ci := 2) rfl e_170 n_J2_isEmpty ⟨Nat.le_of_ble_eq_true rfl, Nat.le_of_ble_eq_true rfl⟩ [] [] (met_J2_isEmpty hw) rfl (Nat.zero_le _) rfl rfl dX0_say_22 rfl (v_ki (fun z_164 h1 hv => ?_))
    clear hw
    obtain ⟨e9, hw⟩ := hv
    refine v_heap e9 ?_
    clear e9
    obtain ⟨hw_167, hw_168⟩ := hw
    refine v_if_ne (tgt := 32) dX0_say_25 (by decide) (fun c_165 => ?_) (fun c_166 => ?_)
    · have hw := hw_167 c_165
      refine v_iconst dX0_say_32 ic_0 ?_
      refine v_sub [0, 1] rfl ?_
      exact b_X0_say_33 (nI 0) h 0 0 hw
    · have hw := hw_168 c_166
      refine v_iconst dX0_say_28 ic_1 ?_
      refine v_goto (tgt := 33) dX0_say_29 (by decide) ?_
      refine v_sub [0, 1] rfl ?_
      exact b_X0_say_33 (nI 1) h 0 0 hw
  · have hw := hw_153 c_151
    refine v_aload_n (q := 0) dX0_say_8 rfl rfl ?_
    refine v_bipush dX0_say_9 bp_m2 ?_
    obtain ⟨fs_173, e_174, hw⟩ := hw
    refine v_callV0 q396 q398 qs0 q104 q399 (ci := 0) rfl e_174 n_X0_refuse ⟨Nat.le_of_ble_eq_true rfl, Nat.le_of_ble_eq_true rfl⟩ [.int (-2)] [] (met_X0_refuse hw) rfl (Nat.zero_le _) rfl rfl dX0_say_11 rfl (v_ki (fun z_171 h_172 hv => ?_))
    clear hw
    have hw := hv
    clear hv
    exact v_iret dX0_say_14 rfl ⟨_, rfl, hw⟩
theorem met_X0_say {post : (Int32) → (AH) → Prop}   {b0 : Nat} {x1 : Int32} {h : AH}  (hw : w_X0_say post  b0 x1 h) : Mt l E yX0_say (ws_ yX0_say cX0_say 4 (some .int)) r_X0_say [va_rf (some b0), .int x1] h (vpi (fun (r : Int32) (h' : AH) => post r h')) := v_entry (by decide +kernel) (Nat.le_of_ble_eq_true rfl) rfl (fun _ => e_X0_say hw)
end WALK
