set_option maxRecDepth 100000
section WALK
variable {l : Launch} {E : VE} {X : VX} {b : Nat → Nat}
/-! X0_layCost -/
abbrev r_X0_layCost : Room := { frames := 1, cells := 0, slots := 0, locals := 25 }
theorem n_X0_layCost : vdn yX0_layCost 1 := ⟨by decide +kernel, by decide +kernel, by decide +kernel⟩
def w_X0_layCost_38 (post : (AH) → Prop) (k4 : (Int32) → (Int32) → (AH) → Prop) (b0 : Nat) (x1 : Int32) (x3 : Int32) (s0 : Int32) (s1 : Int32) (h : AH) : Prop :=
 (∀ z_1 : Int32, z_1 = (s1 + s0) → (∀ z_2 : Int32, z_2 = x3 + (nI 1) → (k4 z_1 z_2 h)))
def w_X0_layCost_129 (post : (AH) → Prop) (k62 : (Int32) → (Int32) → (AH) → Prop) (k77 : (Int32) → (Int32) → (Int32) → (Int32) → (Int32) → (AH) → Prop) (b0 : Nat) (x1 : Int32) (x2 : Int32) (x3 : Int32) (x5 : Int32) (x6 : Int32) (s0 : Int32) (s1 : Int32) (h : AH) : Prop :=
 (∀ z_3 : Int32, z_3 = (s1 + s0) → (∀ z_4 : Int32, z_4 = x6 + (nI 1) → (k77 x2 x3 z_3 x5 z_4 h)))
def w_X0_layCost_109 (post : (AH) → Prop) (k62 : (Int32) → (Int32) → (AH) → Prop) (k77 : (Int32) → (Int32) → (Int32) → (Int32) → (Int32) → (AH) → Prop) (b0 : Nat) (x1 : Int32) (x2 : Int32) (x3 : Int32) (x4 : Int32) (x6 : Int32) (x7 : Int32) (s0 : Int32) (h : AH) : Prop :=
 ((s0 = 0 → (w_X0_layCost_129 post k62 k77 b0 x1 x2 x3 s0 x6 (nI 0) x4 h)) ∧ (¬ s0 = 0 → (∃ (fs_9 : List Value) (r_12 : Option Nat), h b0 = some (.inr (0, fs_9)) ∧ fs_9[20]? = some (va_rf r_12) ∧ (∃ a_13 : Nat, r_12 = some a_13 ∧ (∃ (N_14 : Nat) (g_15 : Nat → Int32), h a_13 = some (.inl (0, N_14, .inl g_15)) ∧ vp_in x7 N_14 ∧ (w_X0_layCost_129 post k62 k77 b0 x1 x2 x3 s0 x6 (g_15 (x7).toNatClampNeg) x4 h))))))
def w_X0_layCost_108 (post : (AH) → Prop) (k62 : (Int32) → (Int32) → (AH) → Prop) (k77 : (Int32) → (Int32) → (Int32) → (Int32) → (Int32) → (AH) → Prop) (b0 : Nat) (x1 : Int32) (x2 : Int32) (x3 : Int32) (x4 : Int32) (x6 : Int32) (x7 : Int32) (h : AH) : Prop :=
 (w_X0_layCost_109 post k62 k77 b0 x1 x2 x3 x4 x6 x7 (nI 0) h)
def w_X0_layCost_182 (post : (AH) → Prop) (k62 : (Int32) → (Int32) → (AH) → Prop) (b0 : Nat) (x1 : Int32) (x2 : Int32) (x3 : Int32) (h : AH) : Prop :=
 (∀ z_18 : Int32, z_18 = x3 + (nI 1) → (k62 x2 z_18 h))
def w_X0_layCost_167 (post : (AH) → Prop) (k62 : (Int32) → (Int32) → (AH) → Prop) (b0 : Nat) (x1 : Int32) (x2 : Int32) (x3 : Int32) (x4 : Int32) (h : AH) : Prop :=
 (∃ (fs_19 : List Value) (r_22 : Option Nat), h b0 = some (.inr (0, fs_19)) ∧ fs_19[20]? = some (va_rf r_22) ∧ (∃ a_23 : Nat, r_22 = some a_23 ∧ (∃ (N_24 : Nat) (g_25 : Nat → Int32), h a_23 = some (.inl (0, N_24, .inl g_25)) ∧ vp_in x1 N_24 ∧ ∀ h_28 : AH, h_28 = va_up h a_23 (some (.inl (0, N_24, .inl (upd g_25 (x1).toNatClampNeg x4)))) → (∃ (fs_29 : List Value) (r_32 : Option Nat), h_28 b0 = some (.inr (0, fs_29)) ∧ fs_29[21]? = some (va_rf r_32) ∧ (∃ a_33 : Nat, r_32 = some a_33 ∧ (∃ (N_34 : Nat) (g_35 : Nat → Int32), h_28 a_33 = some (.inl (0, N_34, .inl g_35)) ∧ vp_in x1 N_34 ∧ ∀ h_38 : AH, h_38 = va_up h_28 a_33 (some (.inl (0, N_34, .inl (upd g_35 (x1).toNatClampNeg x3)))) → (w_X0_layCost_182 post k62 b0 x1 x2 x3 h_38)))))))
def w_X0_layCost_77 (post : (AH) → Prop) (k62 : (Int32) → (Int32) → (AH) → Prop) (b0 : Nat) (x1 : Int32) : Nat → (Int32) → (Int32) → (Int32) → (Int32) → (Int32) → (AH) → Prop
 | 0, _, _, _, _, _, _ => False
 | n0 + 1, x2, x3, x4, x5, x6, h =>
 (((nI 4) ≤ x6 → ((x5 = 0 → (w_X0_layCost_182 post k62 b0 x1 x2 x3 h)) ∧ (¬ x5 = 0 → (∃ (fs_47 : List Value) (r_50 : Option Nat), h b0 = some (.inr (0, fs_47)) ∧ fs_47[21]? = some (va_rf r_50) ∧ (∃ a_51 : Nat, r_50 = some a_51 ∧ (∃ (N_52 : Nat) (g_53 : Nat → Int32), h a_51 = some (.inl (0, N_52, .inl g_53)) ∧ vp_in x1 N_52 ∧ (((g_53 (x1).toNatClampNeg) = (-1) → (w_X0_layCost_167 post k62 b0 x1 x2 x3 x4 h)) ∧ (¬ (g_53 (x1).toNatClampNeg) = (-1) → (∃ (fs_60 : List Value) (r_63 : Option Nat), h b0 = some (.inr (0, fs_60)) ∧ fs_60[20]? = some (va_rf r_63) ∧ (∃ a_64 : Nat, r_63 = some a_64 ∧ (∃ (N_65 : Nat) (g_66 : Nat → Int32), h a_64 = some (.inl (0, N_65, .inl g_66)) ∧ vp_in x1 N_65 ∧ ((x4 < (g_66 (x1).toNatClampNeg) → (w_X0_layCost_167 post k62 b0 x1 x2 x3 x4 h)) ∧ (¬ x4 < (g_66 (x1).toNatClampNeg) → (w_X0_layCost_182 post k62 b0 x1 x2 x3 h)))))))))))))) ∧ (¬ (nI 4) ≤ x6 → (∃ fs_82 : List Value, h b0 = some (.inr (0, fs_82)) ∧ (w_X0_saying (fun (z_73 : Int32) => ((x5 = 0 → (w_X0_layCost_108 post k62 (fun (q0 : Int32) (q1 : Int32) (q2 : Int32) (q3 : Int32) (q4 : Int32) (q5 : AH) => w_X0_layCost_77 post k62 b0 x1 n0 q0 q1 q2 q3 q4 q5) b0 x1 x2 x3 x4 x6 z_73 h)) ∧ (¬ x5 = 0 → ((z_73 = x1 → (w_X0_layCost_108 post k62 (fun (q0 : Int32) (q1 : Int32) (q2 : Int32) (q3 : Int32) (q4 : Int32) (q5 : AH) => w_X0_layCost_77 post k62 b0 x1 n0 q0 q1 q2 q3 q4 q5) b0 x1 x2 x3 x4 x6 z_73 h)) ∧ (¬ z_73 = x1 → (w_X0_layCost_109 post k62 (fun (q0 : Int32) (q1 : Int32) (q2 : Int32) (q3 : Int32) (q4 : Int32) (q5 : AH) => w_X0_layCost_77 post k62 b0 x1 n0 q0 q1 q2 q3 q4 q5) b0 x1 x2 x3 x4 x6 z_73 (nI 1) h)))))) b0 x1 x3 x6 h))))
def w_X0_layCost_62 (post : (AH) → Prop) (b0 : Nat) (x1 : Int32) : Nat → (Int32) → (Int32) → (AH) → Prop
 | 0, _, _, _ => False
 | n0 + 1, x2, x3, h =>
 (((nI 16) ≤ x3 → (post h)) ∧ (¬ (nI 16) ≤ x3 → (∃ n1 : Nat, (w_X0_layCost_77 post (fun (q0 : Int32) (q1 : Int32) (q2 : AH) => w_X0_layCost_62 post b0 x1 n0 q0 q1 q2) b0 x1 n1 x2 x3 x2 (nI 1) (nI 0) h))))
def w_X0_layCost_4 (post : (AH) → Prop) (b0 : Nat) (x1 : Int32) : Nat → (Int32) → (Int32) → (AH) → Prop
 | 0, _, _, _ => False
 | n0 + 1, x2, x3, h =>
 (∃ (fs_89 : List Value) (r_92 : Option Nat), h b0 = some (.inr (0, fs_89)) ∧ fs_89[1]? = some (va_rf r_92) ∧ (∃ a_93 : Nat, r_92 = some a_93 ∧ (∃ (fs_94 : List Value) (z_97 : Int32), h a_93 = some (.inr (1, fs_94)) ∧ fs_94[14]? = some (.int z_97) ∧ ((z_97 ≤ x3 → (∃ (fs_102 : List Value) (r_105 : Option Nat), h b0 = some (.inr (0, fs_102)) ∧ fs_102[20]? = some (va_rf r_105) ∧ (∃ a_106 : Nat, r_105 = some a_106 ∧ (∃ (N_107 : Nat) (g_108 : Nat → Int32), h a_106 = some (.inl (0, N_107, .inl g_108)) ∧ vp_in x1 N_107 ∧ ∀ h_111 : AH, h_111 = va_up h a_106 (some (.inl (0, N_107, .inl (upd g_108 (x1).toNatClampNeg (nI 0))))) → (∃ (fs_112 : List Value) (r_115 : Option Nat), h_111 b0 = some (.inr (0, fs_112)) ∧ fs_112[21]? = some (va_rf r_115) ∧ (∃ a_116 : Nat, r_115 = some a_116 ∧ (∃ (N_117 : Nat) (g_118 : Nat → Int32), h_111 a_116 = some (.inl (0, N_117, .inl g_118)) ∧ vp_in x1 N_117 ∧ ∀ h_121 : AH, h_121 = va_up h_111 a_116 (some (.inl (0, N_117, .inl (upd g_118 (x1).toNatClampNeg (-1))))) → (∃ n1 : Nat, (w_X0_layCost_62 post b0 x1 n1 x2 (nI 0) h_121))))))))) ∧ (¬ z_97 ≤ x3 → ((¬ ((x1 >>> (x3 &&& 31)) &&& (nI 1)) = (nI 1) → (w_X0_layCost_38 post (fun (q0 : Int32) (q1 : Int32) (q2 : AH) => w_X0_layCost_4 post b0 x1 n0 q0 q1 q2) b0 x1 x3 (nI 0) x2 h)) ∧ (((x1 >>> (x3 &&& 31)) &&& (nI 1)) = (nI 1) → (∃ (fs_127 : List Value) (r_130 : Option Nat), h b0 = some (.inr (0, fs_127)) ∧ fs_127[1]? = some (va_rf r_130) ∧ (∃ a_131 : Nat, r_130 = some a_131 ∧ (∃ (fs_132 : List Value) (r_135 : Option Nat), h a_131 = some (.inr (1, fs_132)) ∧ fs_132[12]? = some (va_rf r_135) ∧ (∃ a_136 : Nat, r_135 = some a_136 ∧ (∃ (N_137 : Nat) (g_138 : Nat → Int32), h a_136 = some (.inl (0, N_137, .inl g_138)) ∧ vp_in x3 N_137 ∧ (w_X0_layCost_38 post (fun (q0 : Int32) (q1 : Int32) (q2 : AH) => w_X0_layCost_4 post b0 x1 n0 q0 q1 q2) b0 x1 x3 (g_138 (x3).toNatClampNeg) x2 h)))))))))))))
def w_X0_layCost (post : (AH) → Prop) (b0 : Nat) (x1 : Int32) (h : AH) : Prop :=
 (∃ n1 : Nat, (w_X0_layCost_4 post b0 x1 n1 (nI 0) (nI 0) h))
theorem b_X0_layCost_38 {post : (AH) → Prop}   {b0 : Nat} {x1 : Int32} {k4 : (Int32) → (Int32) → (AH) → Prop}  (hk4 : ∀ (x2 : Int32) (x3 : Int32) (h : AH), k4 x2 x3 h → VV l E X cX0_layCost RX0 "layCost" 8 r_X0_layCost none (vpv (fun (h' : AH) => post h')) h 0 0 4 [(0, va_rf (some b0)), (1, .int x1), (2, .int x2), (3, .int x3)] []) (x3 : Int32) (s0 : Int32) (s1 : Int32) (h : AH) (hw : w_X0_layCost_38 post k4 b0 x1 x3 s0 s1 h) : VV l E X cX0_layCost RX0 "layCost" 8 r_X0_layCost none (vpv (fun (h' : AH) => post h')) h 0 0 38 [(0, va_rf (some b0)), (1, .int x1), (3, .int x3)] [.int s0, .int s1] := by
  refine v_iadd dX0_layCost_38 ?_
  refine v_topi (fun z_1 e_1 => ?_)
  replace hw := hw z_1 e_1
  refine v_istore_n (lv1 := [(2, .int z_1), (0, va_rf (some b0)), (1, .int x1), (3, .int x3)]) dX0_layCost_39 rfl (Nat.le_of_ble_eq_true rfl) rfl ?_
  obtain ⟨z_2, e_2⟩ : ∃ z9 : Int32, z9 = x3 + (nI 1) := ⟨_, rfl⟩
  replace hw := hw z_2 e_2
  refine v_iinc (q := 3) (v := z_2) (lv1 := [(3, .int z_2), (2, .int z_1), (0, va_rf (some b0)), (1, .int x1)]) dX0_layCost_40 rfl (by rw [e_2, ic_1]) (Nat.le_of_ble_eq_true rfl) rfl ?_
  refine v_goto (tgt := 4) dX0_layCost_43 (by decide) ?_
  refine v_sub [2, 3, 1, 0] rfl ?_
  exact hk4 z_1 z_2 h hw
theorem b_X0_layCost_129 {post : (AH) → Prop}   {b0 : Nat} {x1 : Int32} {k62 : (Int32) → (Int32) → (AH) → Prop} {k77 : (Int32) → (Int32) → (Int32) → (Int32) → (Int32) → (AH) → Prop}  (hk62 : ∀ (x2 : Int32) (x3 : Int32) (h : AH), k62 x2 x3 h → VV l E X cX0_layCost RX0 "layCost" 8 r_X0_layCost none (vpv (fun (h' : AH) => post h')) h 0 0 62 [(0, va_rf (some b0)), (1, .int x1), (2, .int x2), (3, .int x3)] []) (hk77 : ∀ (x2 : Int32) (x3 : Int32) (x4 : Int32) (x5 : Int32) (x6 : Int32) (h : AH), k77 x2 x3 x4 x5 x6 h → VV l E X cX0_layCost RX0 "layCost" 8 r_X0_layCost none (vpv (fun (h' : AH) => post h')) h 0 0 77 [(0, va_rf (some b0)), (1, .int x1), (2, .int x2), (3, .int x3), (4, .int x4), (5, .int x5), (6, .int x6)] []) (x2 : Int32) (x3 : Int32) (x5 : Int32) (x6 : Int32) (s0 : Int32) (s1 : Int32) (h : AH) (hw : w_X0_layCost_129 post k62 k77 b0 x1 x2 x3 x5 x6 s0 s1 h) : VV l E X cX0_layCost RX0 "layCost" 8 r_X0_layCost none (vpv (fun (h' : AH) => post h')) h 0 0 129 [(0, va_rf (some b0)), (1, .int x1), (2, .int x2), (3, .int x3), (5, .int x5), (6, .int x6)] [.int s0, .int s1] := by
  refine v_iadd dX0_layCost_129 ?_
  refine v_topi (fun z_3 e_3 => ?_)
  replace hw := hw z_3 e_3
  refine v_istore (lv1 := [(4, .int z_3), (0, va_rf (some b0)), (1, .int x1), (2, .int x2), (3, .int x3), (5, .int x5), (6, .int x6)]) dX0_layCost_130 (Nat.le_of_ble_eq_true rfl) rfl ?_
  obtain ⟨z_4, e_4⟩ : ∃ z9 : Int32, z9 = x6 + (nI 1) := ⟨_, rfl⟩
  replace hw := hw z_4 e_4
  refine v_iinc (q := 6) (v := z_4) (lv1 := [(6, .int z_4), (4, .int z_3), (0, va_rf (some b0)), (1, .int x1), (2, .int x2), (3, .int x3), (5, .int x5)]) dX0_layCost_132 rfl (by rw [e_4, ic_1]) (Nat.le_of_ble_eq_true rfl) rfl ?_
  refine v_goto (tgt := 77) dX0_layCost_135 (by decide) ?_
  refine v_sub [2, 3, 4, 5, 1, 6, 0] rfl ?_
  exact hk77 x2 x3 z_3 x5 z_4 h hw
theorem b_X0_layCost_109 {post : (AH) → Prop}   {b0 : Nat} {x1 : Int32} {k62 : (Int32) → (Int32) → (AH) → Prop} {k77 : (Int32) → (Int32) → (Int32) → (Int32) → (Int32) → (AH) → Prop}  (hk62 : ∀ (x2 : Int32) (x3 : Int32) (h : AH), k62 x2 x3 h → VV l E X cX0_layCost RX0 "layCost" 8 r_X0_layCost none (vpv (fun (h' : AH) => post h')) h 0 0 62 [(0, va_rf (some b0)), (1, .int x1), (2, .int x2), (3, .int x3)] []) (hk77 : ∀ (x2 : Int32) (x3 : Int32) (x4 : Int32) (x5 : Int32) (x6 : Int32) (h : AH), k77 x2 x3 x4 x5 x6 h → VV l E X cX0_layCost RX0 "layCost" 8 r_X0_layCost none (vpv (fun (h' : AH) => post h')) h 0 0 77 [(0, va_rf (some b0)), (1, .int x1), (2, .int x2), (3, .int x3), (4, .int x4), (5, .int x5), (6, .int x6)] []) (x2 : Int32) (x3 : Int32) (x4 : Int32) (x6 : Int32) (x7 : Int32) (s0 : Int32) (h : AH) (hw : w_X0_layCost_109 post k62 k77 b0 x1 x2 x3 x4 x6 x7 s0 h) : VV l E X cX0_layCost RX0 "layCost" 8 r_X0_layCost none (vpv (fun (h' : AH) => post h')) h 0 0 109 [(0, va_rf (some b0)), (1, .int x1), (2, .int x2), (3, .int x3), (4, .int x4), (6, .int x6), (7, .int x7)] [.int s0] := by
  refine v_istore (lv1 := [(5, .int s0), (0, va_rf (some b0)), (1, .int x1), (2, .int x2), (3, .int x3), (4, .int x4), (6, .int x6), (7, .int x7)]) dX0_layCost_109 (Nat.le_of_ble_eq_true rfl) rfl ?_
  refine v_iload (q := 5) dX0_layCost_111 rfl ?_
  refine v_iload (q := 0) dX0_layCost_113 rfl ?_
  obtain ⟨hw_7, hw_8⟩ := hw
  refine v_if_eq (tgt := 128) dX0_layCost_115 (by decide) (fun c_5 => ?_) (fun c_6 => ?_)
  · have hw := hw_7 c_5
    refine v_iconst dX0_layCost_128 ic_0 ?_
    refine v_sub [1, 2, 3, 4, 0, 6] rfl ?_
    exact b_X0_layCost_129 hk62 hk77 x2 x3 s0 x6 (nI 0) x4 h hw
  · have hw := hw_8 c_6
    refine v_aload_n (q := 1) dX0_layCost_118 rfl rfl ?_
    obtain ⟨fs_9, r_12, e_10, e_11, hw⟩ := hw
    refine v_get in_X0 (ci := 0) rfl 20 (Nat.le_of_ble_eq_true rfl) q339 rfl dX0_layCost_119 e_10 e_11 ?_
    refine v_iload (q := 7) dX0_layCost_122 rfl ?_
    obtain ⟨a_13, ea_13, hw⟩ := hw
    subst ea_13
    obtain ⟨N_14, g_15, e_16, hi_17, hw⟩ := hw
    refine v_iald dX0_layCost_124 e_16 hi_17 ?_
    refine v_goto (tgt := 129) dX0_layCost_125 (by decide) ?_
    refine v_sub [1, 2, 3, 4, 0, 6] rfl ?_
    exact b_X0_layCost_129 hk62 hk77 x2 x3 s0 x6 (g_15 (x7).toNatClampNeg) x4 h hw
theorem b_X0_layCost_108 {post : (AH) → Prop}   {b0 : Nat} {x1 : Int32} {k62 : (Int32) → (Int32) → (AH) → Prop} {k77 : (Int32) → (Int32) → (Int32) → (Int32) → (Int32) → (AH) → Prop}  (hk62 : ∀ (x2 : Int32) (x3 : Int32) (h : AH), k62 x2 x3 h → VV l E X cX0_layCost RX0 "layCost" 8 r_X0_layCost none (vpv (fun (h' : AH) => post h')) h 0 0 62 [(0, va_rf (some b0)), (1, .int x1), (2, .int x2), (3, .int x3)] []) (hk77 : ∀ (x2 : Int32) (x3 : Int32) (x4 : Int32) (x5 : Int32) (x6 : Int32) (h : AH), k77 x2 x3 x4 x5 x6 h → VV l E X cX0_layCost RX0 "layCost" 8 r_X0_layCost none (vpv (fun (h' : AH) => post h')) h 0 0 77 [(0, va_rf (some b0)), (1, .int x1), (2, .int x2), (3, .int x3), (4, .int x4), (5, .int x5), (6, .int x6)] []) (x2 : Int32) (x3 : Int32) (x4 : Int32) (x6 : Int32) (x7 : Int32) (h : AH) (hw : w_X0_layCost_108 post k62 k77 b0 x1 x2 x3 x4 x6 x7 h) : VV l E X cX0_layCost RX0 "layCost" 8 r_X0_layCost none (vpv (fun (h' : AH) => post h')) h 0 0 108 [(0, va_rf (some b0)), (1, .int x1), (2, .int x2), (3, .int x3), (4, .int x4), (6, .int x6), (7, .int x7)] [] := by
  refine v_iconst dX0_layCost_108 ic_0 ?_
  refine v_sub [0, 1, 2, 3, 4, 5, 6] rfl ?_
  exact b_X0_layCost_109 hk62 hk77 x2 x3 x4 x6 x7 (nI 0) h hw
theorem b_X0_layCost_182 {post : (AH) → Prop}   {b0 : Nat} {x1 : Int32} {k62 : (Int32) → (Int32) → (AH) → Prop}  (hk62 : ∀ (x2 : Int32) (x3 : Int32) (h : AH), k62 x2 x3 h → VV l E X cX0_layCost RX0 "layCost" 8 r_X0_layCost none (vpv (fun (h' : AH) => post h')) h 0 0 62 [(0, va_rf (some b0)), (1, .int x1), (2, .int x2), (3, .int x3)] []) (x2 : Int32) (x3 : Int32) (h : AH) (hw : w_X0_layCost_182 post k62 b0 x1 x2 x3 h) : VV l E X cX0_layCost RX0 "layCost" 8 r_X0_layCost none (vpv (fun (h' : AH) => post h')) h 0 0 182 [(0, va_rf (some b0)), (1, .int x1), (2, .int x2), (3, .int x3)] [] := by
  obtain ⟨z_18, e_18⟩ : ∃ z9 : Int32, z9 = x3 + (nI 1) := ⟨_, rfl⟩
  replace hw := hw z_18 e_18
  refine v_iinc (q := 3) (v := z_18) (lv1 := [(3, .int z_18), (0, va_rf (some b0)), (1, .int x1), (2, .int x2)]) dX0_layCost_182 rfl (by rw [e_18, ic_1]) (Nat.le_of_ble_eq_true rfl) rfl ?_
  refine v_goto (tgt := 62) dX0_layCost_185 (by decide) ?_
  refine v_sub [1, 2, 3, 0] rfl ?_
  exact hk62 x2 z_18 h hw
theorem b_X0_layCost_167 {post : (AH) → Prop}   {b0 : Nat} {x1 : Int32} {k62 : (Int32) → (Int32) → (AH) → Prop}  (hk62 : ∀ (x2 : Int32) (x3 : Int32) (h : AH), k62 x2 x3 h → VV l E X cX0_layCost RX0 "layCost" 8 r_X0_layCost none (vpv (fun (h' : AH) => post h')) h 0 0 62 [(0, va_rf (some b0)), (1, .int x1), (2, .int x2), (3, .int x3)] []) (x2 : Int32) (x3 : Int32) (x4 : Int32) (h : AH) (hw : w_X0_layCost_167 post k62 b0 x1 x2 x3 x4 h) : VV l E X cX0_layCost RX0 "layCost" 8 r_X0_layCost none (vpv (fun (h' : AH) => post h')) h 0 0 167 [(0, va_rf (some b0)), (1, .int x1), (2, .int x2), (3, .int x3), (4, .int x4)] [] := by
  refine v_aload_n (q := 0) dX0_layCost_167 rfl rfl ?_
  obtain ⟨fs_19, r_22, e_20, e_21, hw⟩ := hw
  refine v_get in_X0 (ci := 0) rfl 20 (Nat.le_of_ble_eq_true rfl) q339 rfl dX0_layCost_168 e_20 e_21 ?_
  refine v_iload_n (q := 1) dX0_layCost_171 rfl rfl ?_
  refine v_iload (q := 4) dX0_layCost_172 rfl ?_
  obtain ⟨a_23, ea_23, hw⟩ := hw
  subst ea_23
  obtain ⟨N_24, g_25, e_26, hi_27, hw⟩ := hw
  obtain ⟨h_28, eh_28⟩ : ∃ z9 : AH, z9 = va_up h a_23 (some (.inl (0, N_24, .inl (upd g_25 (x1).toNatClampNeg x4)))) := ⟨_, rfl⟩
  replace hw := hw h_28 eh_28
  refine v_iast dX0_layCost_174 e_26 hi_27 ?_
  rw [← eh_28]
  refine v_aload_n (q := 0) dX0_layCost_175 rfl rfl ?_
  obtain ⟨fs_29, r_32, e_30, e_31, hw⟩ := hw
  refine v_get in_X0 (ci := 0) rfl 21 (Nat.le_of_ble_eq_true rfl) q340 rfl dX0_layCost_176 e_30 e_31 ?_
  refine v_iload_n (q := 1) dX0_layCost_179 rfl rfl ?_
  refine v_iload_n (q := 3) dX0_layCost_180 rfl rfl ?_
  obtain ⟨a_33, ea_33, hw⟩ := hw
  subst ea_33
  obtain ⟨N_34, g_35, e_36, hi_37, hw⟩ := hw
  obtain ⟨h_38, eh_38⟩ : ∃ z9 : AH, z9 = va_up h_28 a_33 (some (.inl (0, N_34, .inl (upd g_35 (x1).toNatClampNeg x3)))) := ⟨_, rfl⟩
  replace hw := hw h_38 eh_38
  refine v_iast dX0_layCost_181 e_36 hi_37 ?_
  rw [← eh_38]
  refine v_sub [0, 1, 2, 3] rfl ?_
  exact b_X0_layCost_182 hk62 x2 x3 h_38 hw
theorem b_X0_layCost_77 {post : (AH) → Prop}   {b0 : Nat} {x1 : Int32} {k62 : (Int32) → (Int32) → (AH) → Prop}  (hk62 : ∀ (x2 : Int32) (x3 : Int32) (h : AH), k62 x2 x3 h → VV l E X cX0_layCost RX0 "layCost" 8 r_X0_layCost none (vpv (fun (h' : AH) => post h')) h 0 0 62 [(0, va_rf (some b0)), (1, .int x1), (2, .int x2), (3, .int x3)] []) : ∀ (n0 : Nat) (x2 : Int32) (x3 : Int32) (x4 : Int32) (x5 : Int32) (x6 : Int32) (h : AH), w_X0_layCost_77 post k62 b0 x1 n0 x2 x3 x4 x5 x6 h → VV l E X cX0_layCost RX0 "layCost" 8 r_X0_layCost none (vpv (fun (h' : AH) => post h')) h 0 0 77 [(0, va_rf (some b0)), (1, .int x1), (2, .int x2), (3, .int x3), (4, .int x4), (5, .int x5), (6, .int x6)] [] := by
  intro n0
  induction n0 with
  | zero =>
    intro x2 x3 x4 x5 x6 h hw
    exact hw.elim
  | succ n0 ih =>
    intro x2 x3 x4 x5 x6 h hw
    refine v_iload (q := 6) dX0_layCost_77 rfl ?_
    refine v_iconst dX0_layCost_79 ic_4 ?_
    obtain ⟨hw_41, hw_42⟩ := hw
    refine v_icmp_ge (tgt := 138) dX0_layCost_80 (by decide) (fun c_39 => ?_) (fun c_40 => ?_)
    · have hw := hw_41 c_39
      refine v_iload (q := 5) dX0_layCost_138 rfl ?_
      obtain ⟨hw_45, hw_46⟩ := hw
      refine v_if_eq (tgt := 182) dX0_layCost_140 (by decide) (fun c_43 => ?_) (fun c_44 => ?_)
      · have hw := hw_45 c_43
        refine v_sub [0, 1, 2, 3] rfl ?_
        exact b_X0_layCost_182 hk62 x2 x3 h hw
      · have hw := hw_46 c_44
        refine v_aload_n (q := 0) dX0_layCost_143 rfl rfl ?_
        obtain ⟨fs_47, r_50, e_48, e_49, hw⟩ := hw
        refine v_get in_X0 (ci := 0) rfl 21 (Nat.le_of_ble_eq_true rfl) q340 rfl dX0_layCost_144 e_48 e_49 ?_
        refine v_iload_n (q := 1) dX0_layCost_147 rfl rfl ?_
        obtain ⟨a_51, ea_51, hw⟩ := hw
        subst ea_51
        obtain ⟨N_52, g_53, e_54, hi_55, hw⟩ := hw
        refine v_iald dX0_layCost_148 e_54 hi_55 ?_
        refine v_iconst dX0_layCost_149 ic_m1 ?_
        obtain ⟨hw_58, hw_59⟩ := hw
        refine v_icmp_eq (tgt := 167) dX0_layCost_150 (by decide) (fun c_56 => ?_) (fun c_57 => ?_)
        · have hw := hw_58 c_56
          refine v_sub [0, 1, 2, 3, 4] rfl ?_
          exact b_X0_layCost_167 hk62 x2 x3 x4 h hw
        · have hw := hw_59 c_57
          refine v_iload (q := 4) dX0_layCost_153 rfl ?_
          refine v_aload_n (q := 0) dX0_layCost_155 rfl rfl ?_
          obtain ⟨fs_60, r_63, e_61, e_62, hw⟩ := hw
          refine v_get in_X0 (ci := 0) rfl 20 (Nat.le_of_ble_eq_true rfl) q339 rfl dX0_layCost_156 e_61 e_62 ?_
          refine v_iload_n (q := 1) dX0_layCost_159 rfl rfl ?_
          obtain ⟨a_64, ea_64, hw⟩ := hw
          subst ea_64
          obtain ⟨N_65, g_66, e_67, hi_68, hw⟩ := hw
          refine v_iald dX0_layCost_160 e_67 hi_68 ?_
          obtain ⟨hw_71, hw_72⟩ := hw
          refine v_icmp_lt (tgt := 167) dX0_layCost_161 (by decide) (fun c_69 => ?_) (fun c_70 => ?_)
          · have hw := hw_71 c_69
            refine v_sub [0, 1, 2, 3, 4] rfl ?_
            exact b_X0_layCost_167 hk62 x2 x3 x4 h hw
          · have hw := hw_72 c_70
            refine v_goto (tgt := 182) dX0_layCost_164 (by decide) ?_
            refine v_sub [0, 1, 2, 3] rfl ?_
            exact b_X0_layCost_182 hk62 x2 x3 h hw
    · have hw := hw_42 c_40
      refine v_aload_n (q := 0) dX0_layCost_83 rfl rfl ?_
      refine v_iload_n (q := 1) dX0_layCost_84 rfl rfl ?_
      refine v_iload_n (q := 3) dX0_layCost_85 rfl rfl ?_
      refine v_iload (q := 6) dX0_layCost_86 rfl ?_
      obtain ⟨fs_82, e_83, hw⟩ := hw
      refine v_callV q1369 q1371 qs49 q104 q1372 (ci := 0) rfl e_83 n_X0_saying ⟨Nat.le_of_ble_eq_true rfl, Nat.le_of_ble_eq_true rfl⟩ [.int x1, .int x3, .int x6] [] (met_X0_saying hw) rfl (Nat.zero_le _) ⟨Nat.le_refl _, Nat.le_refl _⟩ dX0_layCost_88 rfl (v_ki (fun z_73 h1 hv => ?_))
      clear hw
      obtain ⟨e9, hw⟩ := hv
      refine v_heap e9 ?_
      clear e9
      refine v_istore (lv1 := [(7, .int z_73), (0, va_rf (some b0)), (1, .int x1), (2, .int x2), (3, .int x3), (4, .int x4), (5, .int x5), (6, .int x6)]) dX0_layCost_91 (Nat.le_of_ble_eq_true rfl) rfl ?_
      refine v_iload (q := 6) dX0_layCost_93 rfl ?_
      obtain ⟨hw_76, hw_77⟩ := hw
      refine v_if_eq (tgt := 108) dX0_layCost_95 (by decide) (fun c_74 => ?_) (fun c_75 => ?_)
      · have hw := hw_76 c_74
        refine v_sub [1, 2, 3, 4, 5, 7, 0] rfl ?_
        exact b_X0_layCost_108 hk62 (fun q0 q1 q2 q3 q4 q5 z => ih q0 q1 q2 q3 q4 q5 z) x2 x3 x4 x6 z_73 h hw
      · have hw := hw_77 c_75
        refine v_iload (q := 0) dX0_layCost_98 rfl ?_
        refine v_iload_n (q := 2) dX0_layCost_100 rfl rfl ?_
        obtain ⟨hw_80, hw_81⟩ := hw
        refine v_icmp_eq (tgt := 108) dX0_layCost_101 (by decide) (fun c_78 => ?_) (fun c_79 => ?_)
        · have hw := hw_80 c_78
          refine v_sub [1, 2, 3, 4, 5, 7, 0] rfl ?_
          exact b_X0_layCost_108 hk62 (fun q0 q1 q2 q3 q4 q5 z => ih q0 q1 q2 q3 q4 q5 z) x2 x3 x4 x6 z_73 h hw
        · have hw := hw_81 c_79
          refine v_iconst dX0_layCost_104 ic_1 ?_
          refine v_goto (tgt := 109) dX0_layCost_105 (by decide) ?_
          refine v_sub [1, 2, 3, 4, 5, 7, 0] rfl ?_
          exact b_X0_layCost_109 hk62 (fun q0 q1 q2 q3 q4 q5 z => ih q0 q1 q2 q3 q4 q5 z) x2 x3 x4 x6 z_73 (nI 1) h hw
theorem b_X0_layCost_62 {post : (AH) → Prop}   {b0 : Nat} {x1 : Int32}    : ∀ (n0 : Nat) (x2 : Int32) (x3 : Int32) (h : AH), w_X0_layCost_62 post b0 x1 n0 x2 x3 h → VV l E X cX0_layCost RX0 "layCost" 8 r_X0_layCost none (vpv (fun (h' : AH) => post h')) h 0 0 62 [(0, va_rf (some b0)), (1, .int x1), (2, .int x2), (3, .int x3)] [] := by
  intro n0
  induction n0 with
  | zero =>
    intro x2 x3 h hw
    exact hw.elim
  | succ n0 ih =>
    intro x2 x3 h hw
    refine v_iload_n (q := 3) dX0_layCost_62 rfl rfl ?_
    refine v_bipush dX0_layCost_63 bp_16 ?_
    obtain ⟨hw_86, hw_87⟩ := hw
    refine v_icmp_ge (tgt := 188) dX0_layCost_65 (by decide) (fun c_84 => ?_) (fun c_85 => ?_)
    · have hw := hw_86 c_84
      exact v_vret dX0_layCost_188 rfl ⟨rfl, hw⟩
    · have hw := hw_87 c_85
      refine v_iload_n (q := 2) dX0_layCost_68 rfl rfl ?_
      refine v_istore (lv1 := [(4, .int x2), (0, va_rf (some b0)), (1, .int x1), (2, .int x2), (3, .int x3)]) dX0_layCost_69 (Nat.le_of_ble_eq_true rfl) rfl ?_
      refine v_iconst dX0_layCost_71 ic_1 ?_
      refine v_istore (lv1 := [(5, .int (nI 1)), (4, .int x2), (0, va_rf (some b0)), (1, .int x1), (2, .int x2), (3, .int x3)]) dX0_layCost_72 (Nat.le_of_ble_eq_true rfl) rfl ?_
      refine v_iconst dX0_layCost_74 ic_0 ?_
      refine v_istore (lv1 := [(6, .int (nI 0)), (5, .int (nI 1)), (4, .int x2), (0, va_rf (some b0)), (1, .int x1), (2, .int x2), (3, .int x3)]) dX0_layCost_75 (Nat.le_of_ble_eq_true rfl) rfl ?_
      obtain ⟨n_88, hw⟩ := hw
      refine v_sub [3, 4, 5, 6, 2, 1, 0] rfl ?_
      exact b_X0_layCost_77 (fun q0 q1 q2 z => ih q0 q1 q2 z) n_88 x2 x3 x2 (nI 1) (nI 0) h hw
theorem b_X0_layCost_4 {post : (AH) → Prop}   {b0 : Nat} {x1 : Int32}    : ∀ (n0 : Nat) (x2 : Int32) (x3 : Int32) (h : AH), w_X0_layCost_4 post b0 x1 n0 x2 x3 h → VV l E X cX0_layCost RX0 "layCost" 8 r_X0_layCost none (vpv (fun (h' : AH) => post h')) h 0 0 4 [(0, va_rf (some b0)), (1, .int x1), (2, .int x2), (3, .int x3)] [] := by
  intro n0
  induction n0 with
  | zero =>
    intro x2 x3 h hw
    exact hw.elim
  | succ n0 ih =>
    intro x2 x3 h hw
    refine v_iload_n (q := 3) dX0_layCost_4 rfl rfl ?_
    refine v_aload_n (q := 0) dX0_layCost_5 rfl rfl ?_
    obtain ⟨fs_89, r_92, e_90, e_91, hw⟩ := hw
    refine v_get in_X0 (ci := 0) rfl 1 (Nat.le_of_ble_eq_true rfl) q319 rfl dX0_layCost_6 e_90 e_91 ?_
    obtain ⟨a_93, ea_93, hw⟩ := hw
    subst ea_93
    obtain ⟨fs_94, z_97, e_95, e_96, hw⟩ := hw
    refine v_getN in_X1 (ci := 1) rfl 14 (Nat.le_of_ble_eq_true rfl) q248 rfl dX0_layCost_9 e_95 e_96 ?_
    obtain ⟨hw_100, hw_101⟩ := hw
    refine v_icmp_ge (tgt := 46) dX0_layCost_12 (by decide) (fun c_98 => ?_) (fun c_99 => ?_)
    · have hw := hw_100 c_98
      refine v_aload_n (q := 0) dX0_layCost_46 rfl rfl ?_
      obtain ⟨fs_102, r_105, e_103, e_104, hw⟩ := hw
      refine v_get in_X0 (ci := 0) rfl 20 (Nat.le_of_ble_eq_true rfl) q339 rfl dX0_layCost_47 e_103 e_104 ?_
      refine v_iload_n (q := 1) dX0_layCost_50 rfl rfl ?_
      refine v_iconst dX0_layCost_51 ic_0 ?_
      obtain ⟨a_106, ea_106, hw⟩ := hw
      subst ea_106
      obtain ⟨N_107, g_108, e_109, hi_110, hw⟩ := hw
      obtain ⟨h_111, eh_111⟩ : ∃ z9 : AH, z9 = va_up h a_106 (some (.inl (0, N_107, .inl (upd g_108 (x1).toNatClampNeg (nI 0))))) := ⟨_, rfl⟩
      replace hw := hw h_111 eh_111
      refine v_iast dX0_layCost_52 e_109 hi_110 ?_
      rw [← eh_111]
      refine v_aload_n (q := 0) dX0_layCost_53 rfl rfl ?_
      obtain ⟨fs_112, r_115, e_113, e_114, hw⟩ := hw
      refine v_get in_X0 (ci := 0) rfl 21 (Nat.le_of_ble_eq_true rfl) q340 rfl dX0_layCost_54 e_113 e_114 ?_
      refine v_iload_n (q := 1) dX0_layCost_57 rfl rfl ?_
      refine v_iconst dX0_layCost_58 ic_m1 ?_
      obtain ⟨a_116, ea_116, hw⟩ := hw
      subst ea_116
      obtain ⟨N_117, g_118, e_119, hi_120, hw⟩ := hw
      obtain ⟨h_121, eh_121⟩ : ∃ z9 : AH, z9 = va_up h_111 a_116 (some (.inl (0, N_117, .inl (upd g_118 (x1).toNatClampNeg (-1))))) := ⟨_, rfl⟩
      replace hw := hw h_121 eh_121
      refine v_iast dX0_layCost_59 e_119 hi_120 ?_
      rw [← eh_121]
      refine v_iconst dX0_layCost_60 ic_0 ?_
      refine v_istore_n (lv1 := [(3, .int (nI 0)), (0, va_rf (some b0)), (1, .int x1), (2, .int x2)]) dX0_layCost_61 rfl (Nat.le_of_ble_eq_true rfl) rfl ?_
      obtain ⟨n_122, hw⟩ := hw
      refine v_sub [1, 2, 3, 0] rfl ?_
      exact b_X0_layCost_62 n_122 x2 (nI 0) h_121 hw
    · have hw := hw_101 c_99
      refine v_iload_n (q := 2) dX0_layCost_15 rfl rfl ?_
      refine v_iload_n (q := 1) dX0_layCost_16 rfl rfl ?_
      refine v_iload_n (q := 3) dX0_layCost_17 rfl rfl ?_
      refine v_ishr dX0_layCost_18 ?_
      refine v_iconst dX0_layCost_19 ic_1 ?_
      refine v_iand dX0_layCost_20 ?_
      refine v_iconst dX0_layCost_21 ic_1 ?_
      obtain ⟨hw_125, hw_126⟩ := hw
      refine v_icmp_ne (tgt := 37) dX0_layCost_22 (by decide) (fun c_123 => ?_) (fun c_124 => ?_)
      · have hw := hw_125 c_123
        refine v_iconst dX0_layCost_37 ic_0 ?_
        refine v_sub [0, 1, 3] rfl ?_
        exact b_X0_layCost_38 (fun q0 q1 q2 z => ih q0 q1 q2 z) x3 (nI 0) x2 h hw
      · have hw := hw_126 c_124
        refine v_aload_n (q := 0) dX0_layCost_25 rfl rfl ?_
        obtain ⟨fs_127, r_130, e_128, e_129, hw⟩ := hw
        refine v_get in_X0 (ci := 0) rfl 1 (Nat.le_of_ble_eq_true rfl) q319 rfl dX0_layCost_26 e_128 e_129 ?_
        obtain ⟨a_131, ea_131, hw⟩ := hw
        subst ea_131
        obtain ⟨fs_132, r_135, e_133, e_134, hw⟩ := hw
        refine v_getN in_X1 (ci := 1) rfl 12 (Nat.le_of_ble_eq_true rfl) q244 rfl dX0_layCost_29 e_133 e_134 ?_
        refine v_iload_n (q := 3) dX0_layCost_32 rfl rfl ?_
        obtain ⟨a_136, ea_136, hw⟩ := hw
        subst ea_136
        obtain ⟨N_137, g_138, e_139, hi_140, hw⟩ := hw
        refine v_iald dX0_layCost_33 e_139 hi_140 ?_
        refine v_goto (tgt := 38) dX0_layCost_34 (by decide) ?_
        refine v_sub [0, 1, 3] rfl ?_
        exact b_X0_layCost_38 (fun q0 q1 q2 z => ih q0 q1 q2 z) x3 (g_138 (x3).toNatClampNeg) x2 h hw
theorem e_X0_layCost {post : (AH) → Prop}   {b0 : Nat} {x1 : Int32} {h : AH}  (hw : w_X0_layCost post  b0 x1 h) : VV l E X cX0_layCost RX0 "layCost" 8 r_X0_layCost none (vpv (fun (h' : AH) => post h')) h 0 0 0 [(0, va_rf (some b0)), (1, .int x1)] [] := by
  refine v_iconst dX0_layCost_0 ic_0 ?_
  refine v_istore_n (lv1 := [(2, .int (nI 0)), (0, va_rf (some b0)), (1, .int x1)]) dX0_layCost_1 rfl (Nat.le_of_ble_eq_true rfl) rfl ?_
  refine v_iconst dX0_layCost_2 ic_0 ?_
  refine v_istore_n (lv1 := [(3, .int (nI 0)), (2, .int (nI 0)), (0, va_rf (some b0)), (1, .int x1)]) dX0_layCost_3 rfl (Nat.le_of_ble_eq_true rfl) rfl ?_
  obtain ⟨n_141, hw⟩ := hw
  refine v_sub [2, 3, 1, 0] rfl ?_
  exact b_X0_layCost_4 n_141 (nI 0) (nI 0) h hw
theorem met_X0_layCost {post : (AH) → Prop}   {b0 : Nat} {x1 : Int32} {h : AH}  (hw : w_X0_layCost post  b0 x1 h) : Mt l E yX0_layCost (ws_ yX0_layCost cX0_layCost 8 none) r_X0_layCost [va_rf (some b0), .int x1] h (vpv (fun (h' : AH) => post h')) := v_entry (by decide +kernel) (Nat.le_of_ble_eq_true rfl) rfl (fun _ => e_X0_layCost hw)
/-! X0_ask -/
abbrev r_X0_ask : Room := { frames := 2, cells := 0, slots := 0, locals := 52 }
theorem n_X0_ask : vdn yX0_ask 2 := ⟨by decide +kernel, by decide +kernel, by decide +kernel⟩
def w_X0_ask_28 (post : (Int32) → (AH) → Prop) (b0 : Nat) (x1 : Int32) (x2 : Int32) (h : AH) : Prop :=
 (∃ fs_3 : List Value, h b0 = some (.inr (0, fs_3)) ∧ (w_X0_refuse (fun (z_1 : Int32) (h_2 : AH) => (post z_1 h_2)) b0 (-2) h))
def w_X0_ask_55 (post : (Int32) → (AH) → Prop) (k37 : (Int32) → (AH) → Prop) (b0 : Nat) (x1 : Int32) (x2 : Int32) (x3 : Int32) (h : AH) : Prop :=
 (∀ z_5 : Int32, z_5 = x3 + (nI 1) → (k37 z_5 h))
def w_X0_ask_37 (post : (Int32) → (AH) → Prop) (b0 : Nat) (x1 : Int32) (x2 : Int32) : Nat → (Int32) → (AH) → Prop
 | 0, _, _ => False
 | n0 + 1, x3, h =>
 ((x1 < x3 → ((¬ x2 = 0 → (∃ (fs_14 : List Value) (r_17 : Option Nat), h b0 = some (.inr (0, fs_14)) ∧ fs_14[21]? = some (va_rf r_17) ∧ (∃ a_18 : Nat, r_17 = some a_18 ∧ (∃ (N_19 : Nat) (g_20 : Nat → Int32), h a_18 = some (.inl (0, N_19, .inl g_20)) ∧ vp_in x1 N_19 ∧ (post (g_20 (x1).toNatClampNeg) h))))) ∧ (x2 = 0 → (∃ (fs_23 : List Value) (r_26 : Option Nat), h b0 = some (.inr (0, fs_23)) ∧ fs_23[20]? = some (va_rf r_26) ∧ (∃ a_27 : Nat, r_26 = some a_27 ∧ (∃ (N_28 : Nat) (g_29 : Nat → Int32), h a_27 = some (.inl (0, N_28, .inl g_29)) ∧ vp_in x1 N_28 ∧ (post (g_29 (x1).toNatClampNeg) h))))))) ∧ (¬ x1 < x3 → ((¬ (x3 &&& (x1 ^^^ (-1))) = 0 → (w_X0_ask_55 post (fun (q0 : Int32) (q1 : AH) => w_X0_ask_37 post b0 x1 x2 n0 q0 q1) b0 x1 x2 x3 h)) ∧ ((x3 &&& (x1 ^^^ (-1))) = 0 → (∃ fs_37 : List Value, h b0 = some (.inr (0, fs_37)) ∧ (w_X0_layCost (fun (h_36 : AH) => (w_X0_ask_55 post (fun (q0 : Int32) (q1 : AH) => w_X0_ask_37 post b0 x1 x2 n0 q0 q1) b0 x1 x2 x3 h_36)) b0 x3 h))))))
def w_X0_ask (post : (Int32) → (AH) → Prop) (b0 : Nat) (x1 : Int32) (x2 : Int32) (h : AH) : Prop :=
 (w_X0_isPart (fun (z_39 : Int32) => ((z_39 = 0 → (w_X0_ask_28 post b0 x1 x2 h)) ∧ (¬ z_39 = 0 → (∃ (fs_44 : List Value) (r_47 : Option Nat), h b0 = some (.inr (0, fs_44)) ∧ fs_44[1]? = some (va_rf r_47) ∧ (∃ a_48 : Nat, r_47 = some a_48 ∧ (∃ (fs_49 : List Value) (z_52 : Int32), h a_48 = some (.inr (1, fs_49)) ∧ fs_49[14]? = some (.int z_52) ∧ (w_X0_in (fun (z_53 : Int32) => ((¬ z_53 = 0 → (∃ n1 : Nat, (w_X0_ask_37 post b0 x1 x2 n1 (nI 0) h))) ∧ (z_53 = 0 → (w_X0_ask_28 post b0 x1 x2 h)))) ((x1).toInt64) (lN 0) (((((nI 1) <<< (z_52 &&& 31)) - (nI 1))).toInt64)))))))) x2)
theorem b_X0_ask_28 {post : (Int32) → (AH) → Prop}   {b0 : Nat} {x1 : Int32} {x2 : Int32}    (h : AH) (hw : w_X0_ask_28 post b0 x1 x2 h) : VV l E X cX0_ask RX0 "ask" 4 r_X0_ask (some .int) (vpi (fun (r : Int32) (h' : AH) => post r h')) h 0 0 28 [(0, va_rf (some b0)), (1, .int x1), (2, .int x2)] [] := by
  refine v_aload_n (q := 0) dX0_ask_28 rfl rfl ?_
  refine v_bipush dX0_ask_29 bp_m2 ?_
  obtain ⟨fs_3, e_4, hw⟩ := hw
  refine v_callV q396 q398 qs0 q104 q399 (ci := 0) rfl e_4 n_X0_refuse ⟨Nat.le_of_ble_eq_true rfl, Nat.le_of_ble_eq_true rfl⟩ [.int (-2)] [] (met_X0_refuse hw) rfl (Nat.zero_le _) ⟨Nat.le_refl _, Nat.le_refl _⟩ dX0_ask_31 rfl (v_ki (fun z_1 h_2 hv => ?_))
  clear hw
  have hw := hv
  clear hv
  exact v_iret dX0_ask_34 rfl ⟨_, rfl, hw⟩
theorem b_X0_ask_55 {post : (Int32) → (AH) → Prop}   {b0 : Nat} {x1 : Int32} {x2 : Int32} {k37 : (Int32) → (AH) → Prop}  (hk37 : ∀ (x3 : Int32) (h : AH), k37 x3 h → VV l E X cX0_ask RX0 "ask" 4 r_X0_ask (some .int) (vpi (fun (r : Int32) (h' : AH) => post r h')) h 0 0 37 [(0, va_rf (some b0)), (1, .int x1), (2, .int x2), (3, .int x3)] []) (x3 : Int32) (h : AH) (hw : w_X0_ask_55 post k37 b0 x1 x2 x3 h) : VV l E X cX0_ask RX0 "ask" 4 r_X0_ask (some .int) (vpi (fun (r : Int32) (h' : AH) => post r h')) h 0 0 55 [(0, va_rf (some b0)), (1, .int x1), (2, .int x2), (3, .int x3)] [] := by
  obtain ⟨z_5, e_5⟩ : ∃ z9 : Int32, z9 = x3 + (nI 1) := ⟨_, rfl⟩
  replace hw := hw z_5 e_5
  refine v_iinc (q := 3) (v := z_5) (lv1 := [(3, .int z_5), (0, va_rf (some b0)), (1, .int x1), (2, .int x2)]) dX0_ask_55 rfl (by rw [e_5, ic_1]) (Nat.le_of_ble_eq_true rfl) rfl ?_
  refine v_goto (tgt := 37) dX0_ask_58 (by decide) ?_
  refine v_sub [1, 2, 3, 0] rfl ?_
  exact hk37 z_5 h hw
theorem b_X0_ask_37 {post : (Int32) → (AH) → Prop}   {b0 : Nat} {x1 : Int32} {x2 : Int32}    : ∀ (n0 : Nat) (x3 : Int32) (h : AH), w_X0_ask_37 post b0 x1 x2 n0 x3 h → VV l E X cX0_ask RX0 "ask" 4 r_X0_ask (some .int) (vpi (fun (r : Int32) (h' : AH) => post r h')) h 0 0 37 [(0, va_rf (some b0)), (1, .int x1), (2, .int x2), (3, .int x3)] [] := by
  intro n0
  induction n0 with
  | zero =>
    intro x3 h hw
    exact hw.elim
  | succ n0 ih =>
    intro x3 h hw
    refine v_iload_n (q := 3) dX0_ask_37 rfl rfl ?_
    refine v_iload_n (q := 1) dX0_ask_38 rfl rfl ?_
    obtain ⟨hw_8, hw_9⟩ := hw
    refine v_icmp_gt (tgt := 61) dX0_ask_39 (by decide) (fun c_6 => ?_) (fun c_7 => ?_)
    · have hw := hw_8 c_6
      refine v_iload_n (q := 2) dX0_ask_61 rfl rfl ?_
      obtain ⟨hw_12, hw_13⟩ := hw
      refine v_if_ne (tgt := 74) dX0_ask_62 (by decide) (fun c_10 => ?_) (fun c_11 => ?_)
      · have hw := hw_12 c_10
        refine v_aload_n (q := 0) dX0_ask_74 rfl rfl ?_
        obtain ⟨fs_14, r_17, e_15, e_16, hw⟩ := hw
        refine v_get in_X0 (ci := 0) rfl 21 (Nat.le_of_ble_eq_true rfl) q340 rfl dX0_ask_75 e_15 e_16 ?_
        refine v_iload_n (q := 1) dX0_ask_78 rfl rfl ?_
        obtain ⟨a_18, ea_18, hw⟩ := hw
        subst ea_18
        obtain ⟨N_19, g_20, e_21, hi_22, hw⟩ := hw
        refine v_iald dX0_ask_79 e_21 hi_22 ?_
        exact v_iret dX0_ask_80 rfl ⟨_, rfl, hw⟩
      · have hw := hw_13 c_11
        refine v_aload_n (q := 0) dX0_ask_65 rfl rfl ?_
        obtain ⟨fs_23, r_26, e_24, e_25, hw⟩ := hw
        refine v_get in_X0 (ci := 0) rfl 20 (Nat.le_of_ble_eq_true rfl) q339 rfl dX0_ask_66 e_24 e_25 ?_
        refine v_iload_n (q := 1) dX0_ask_69 rfl rfl ?_
        obtain ⟨a_27, ea_27, hw⟩ := hw
        subst ea_27
        obtain ⟨N_28, g_29, e_30, hi_31, hw⟩ := hw
        refine v_iald dX0_ask_70 e_30 hi_31 ?_
        refine v_goto (tgt := 80) dX0_ask_71 (by decide) ?_
        exact v_iret dX0_ask_80 rfl ⟨_, rfl, hw⟩
    · have hw := hw_9 c_7
      refine v_iload_n (q := 3) dX0_ask_42 rfl rfl ?_
      refine v_iload_n (q := 1) dX0_ask_43 rfl rfl ?_
      refine v_iconst dX0_ask_44 ic_m1 ?_
      refine v_ixor dX0_ask_45 ?_
      refine v_iand dX0_ask_46 ?_
      obtain ⟨hw_34, hw_35⟩ := hw
      refine v_if_ne (tgt := 55) dX0_ask_47 (by decide) (fun c_32 => ?_) (fun c_33 => ?_)
      · have hw := hw_34 c_32
        refine v_sub [0, 1, 2, 3] rfl ?_
        exact b_X0_ask_55 (fun q0 q1 z => ih q0 q1 z) x3 h hw
      · have hw := hw_35 c_33
        refine v_aload_n (q := 0) dX0_ask_50 rfl rfl ?_
        refine v_iload_n (q := 3) dX0_ask_51 rfl rfl ?_
        obtain ⟨fs_37, e_38, hw⟩ := hw
        refine v_callV q1365 q1367 qs48 q104 q1368 (ci := 0) rfl e_38 n_X0_layCost ⟨Nat.le_of_ble_eq_true rfl, Nat.le_of_ble_eq_true rfl⟩ [.int x3] [] (met_X0_layCost hw) rfl (Nat.zero_le _) ⟨Nat.le_refl _, Nat.le_refl _⟩ dX0_ask_52 rfl (v_kv (fun h_36 hv => ?_))
        clear hw
        have hw := hv
        clear hv
        refine v_sub [0, 1, 2, 3] rfl ?_
        exact b_X0_ask_55 (fun q0 q1 z => ih q0 q1 z) x3 h_36 hw
theorem e_X0_ask {post : (Int32) → (AH) → Prop}   {b0 : Nat} {x1 : Int32} {x2 : Int32} {h : AH}  (hw : w_X0_ask post  b0 x1 x2 h) : VV l E X cX0_ask RX0 "ask" 4 r_X0_ask (some .int) (vpi (fun (r : Int32) (h' : AH) => post r h')) h 0 0 0 [(0, va_rf (some b0)), (1, .int x1), (2, .int x2)] [] := by
  refine v_iload_n (q := 2) dX0_ask_0 rfl rfl ?_
  refine v_callS q1160 q1161 q104 q1162 n_X0_isPart ⟨Nat.le_of_ble_eq_true rfl, Nat.le_of_ble_eq_true rfl⟩ [.int x2] [] (met_X0_isPart hw) rfl (Nat.zero_le _) ⟨Nat.le_refl _, Nat.le_refl _⟩ dX0_ask_1 rfl (v_ki (fun z_39 h1 hv => ?_))
  clear hw
  obtain ⟨e9, hw⟩ := hv
  refine v_heap e9 ?_
  clear e9
  obtain ⟨hw_42, hw_43⟩ := hw
  refine v_if_eq (tgt := 28) dX0_ask_4 (by decide) (fun c_40 => ?_) (fun c_41 => ?_)
  · have hw := hw_42 c_40
    refine v_sub [0, 1, 2] rfl ?_
    exact b_X0_ask_28 h hw
  · have hw := hw_43 c_41
    refine v_iload_n (q := 1) dX0_ask_7 rfl rfl ?_
    refine v_i2l dX0_ask_8 ?_
    refine v_lconst (v := lN 0) dX0_ask_9 rfl ?_
    refine v_iconst dX0_ask_10 ic_1 ?_
    refine v_aload_n (q := 0) dX0_ask_11 rfl rfl ?_
    obtain ⟨fs_44, r_47, e_45, e_46, hw⟩ := hw
    refine v_get in_X0 (ci := 0) rfl 1 (Nat.le_of_ble_eq_true rfl) q319 rfl dX0_ask_12 e_45 e_46 ?_
    obtain ⟨a_48, ea_48, hw⟩ := hw
    subst ea_48
    obtain ⟨fs_49, z_52, e_50, e_51, hw⟩ := hw
    refine v_getN in_X1 (ci := 1) rfl 14 (Nat.le_of_ble_eq_true rfl) q248 rfl dX0_ask_15 e_50 e_51 ?_
    refine v_ishl dX0_ask_18 ?_
    refine v_iconst dX0_ask_19 ic_1 ?_
    refine v_isub dX0_ask_20 ?_
    refine v_i2l dX0_ask_21 ?_
    refine v_callS q393 q394 q104 q395 n_X0_in ⟨Nat.le_of_ble_eq_true rfl, Nat.le_of_ble_eq_true rfl⟩ [.long ((x1).toInt64), .long (lN 0), .long (((((nI 1) <<< (z_52 &&& 31)) - (nI 1))).toInt64)] [] (met_X0_in hw) rfl (Nat.zero_le _) ⟨Nat.le_refl _, Nat.le_refl _⟩ dX0_ask_22 rfl (v_ki (fun z_53 h1 hv => ?_))
    clear hw
    obtain ⟨e9, hw⟩ := hv
    refine v_heap e9 ?_
    clear e9
    obtain ⟨hw_56, hw_57⟩ := hw
    refine v_if_ne (tgt := 35) dX0_ask_25 (by decide) (fun c_54 => ?_) (fun c_55 => ?_)
    · have hw := hw_56 c_54
      refine v_iconst dX0_ask_35 ic_0 ?_
      refine v_istore_n (lv1 := [(3, .int (nI 0)), (0, va_rf (some b0)), (1, .int x1), (2, .int x2)]) dX0_ask_36 rfl (Nat.le_of_ble_eq_true rfl) rfl ?_
      obtain ⟨n_58, hw⟩ := hw
      refine v_sub [1, 2, 3, 0] rfl ?_
      exact b_X0_ask_37 n_58 (nI 0) h hw
    · have hw := hw_57 c_55
      refine v_sub [0, 1, 2] rfl ?_
      exact b_X0_ask_28 h hw
theorem met_X0_ask {post : (Int32) → (AH) → Prop}   {b0 : Nat} {x1 : Int32} {x2 : Int32} {h : AH}  (hw : w_X0_ask post  b0 x1 x2 h) : Mt l E yX0_ask (ws_ yX0_ask cX0_ask 4 (some .int)) r_X0_ask [va_rf (some b0), .int x1, .int x2] h (vpi (fun (r : Int32) (h' : AH) => post r h')) := v_entry (by decide +kernel) (Nat.le_of_ble_eq_true rfl) rfl (fun _ => e_X0_ask hw)
/-! X0_isRow -/
abbrev r_X0_isRow : Room := { frames := 1, cells := 0, slots := 0, locals := 25 }
theorem n_X0_isRow : vdn yX0_isRow 1 := ⟨by decide +kernel, by decide +kernel, by decide +kernel⟩
def w_X0_isRow (post : (Int32) → Prop) (x0 : Int32) : Prop :=
 (w_X0_in (fun (z_1 : Int32) => ((z_1 = nI 0 ∨ z_1 = nI 1) ∧ post z_1)) ((x0).toInt64) (lN 0) (lN 3))
theorem e_X0_isRow {post : (Int32) → Prop}   {x0 : Int32} {h : AH}  (hw : w_X0_isRow post  x0) : VV l E X cX0_isRow RX0 "isRow" 1 r_X0_isRow (some .boolean) (vpi (fun (r : Int32) (h' : AH) => h' = h ∧ post r)) h 0 0 0 [(0, .int x0)] [] := by
  refine v_iload_n (q := 0) dX0_isRow_0 rfl rfl ?_
  refine v_i2l dX0_isRow_1 ?_
  refine v_lconst (v := lN 0) dX0_isRow_2 rfl ?_
  refine v_ldc2 (v := (lN 3)) dX0_isRow_3 q1307 ?_
  refine v_callS q393 q394 q104 q395 n_X0_in ⟨Nat.le_of_ble_eq_true rfl, Nat.le_of_ble_eq_true rfl⟩ [.long ((x0).toInt64), .long (lN 0), .long (lN 3)] [] (met_X0_in hw) rfl (Nat.zero_le _) ⟨Nat.le_refl _, Nat.le_refl _⟩ dX0_isRow_6 rfl (v_ki (fun z_1 h1 hv => ?_))
  clear hw
  obtain ⟨e9, hw⟩ := hv
  refine v_heap e9 ?_
  clear e9
  obtain ⟨hn_2, hw⟩ := hw
  exact v_zret dX0_isRow_9 rfl (v_z1 hn_2).1 ⟨_, rfl, rfl, hw⟩
theorem met_X0_isRow {post : (Int32) → Prop}   {x0 : Int32} {h : AH}  (hw : w_X0_isRow post  x0) : Mt l E yX0_isRow (ws_ yX0_isRow cX0_isRow 1 (some .boolean)) r_X0_isRow [.int x0] h (vpi (fun (r : Int32) (h' : AH) => h' = h ∧ post r)) := v_entry (by decide +kernel) (Nat.le_of_ble_eq_true rfl) rfl (fun _ => e_X0_isRow hw)
/-! X0_minister -/
abbrev r_X0_minister : Room := { frames := 8, cells := 60, slots := 4200, locals := 228 }
theorem n_X0_minister : vdn yX0_minister 1 := ⟨by decide +kernel, by decide +kernel, by decide +kernel⟩
def w_X0_minister_161 (post : (Int32) → (AH) → Prop) (b0 : Nat) (x1 : Int32) : Nat → (Option Nat) → (Int32) → (Int32) → (AH) → (Nat) → (Nat) → Prop
 | 0, _, _, _, _, _, _ => False
 | n0 + 1, x2, x3, x4, h, k, n =>
 ((x3 ≤ x4 → (post x3 h)) ∧ (¬ x3 ≤ x4 → (∃ (fs_5 : List Value) (r_8 : Option Nat), h b0 = some (.inr (0, fs_5)) ∧ fs_5[1]? = some (va_rf r_8) ∧ (∃ a_9 : Nat, r_8 = some a_9 ∧ (∃ (fs_10 : List Value) (r_13 : Option Nat), h a_9 = some (.inr (1, fs_10)) ∧ fs_10[7]? = some (va_rf r_13) ∧ (k + 1 ≤ 60 ∧ n + 6 ≤ 4200 ∧ ∀ a_14 : Nat, h a_14 = none → ∀ h_16 : AH, h_16 = va_up h a_14 (some (.inr (23, dfX23))) → (∃ a_21 : Nat, x2 = some a_21 ∧ (∃ fs_44 : List Value, h_16 a_21 = some (.inr (6, fs_44)) ∧ (w_X5_number (fun (y_22 : Int64) => (∃ fs_42 : List Value, h_16 a_21 = some (.inr (6, fs_42)) ∧ (w_X5_number (fun (y_23 : Int64) => (∃ fs_40 : List Value, h_16 a_21 = some (.inr (6, fs_40)) ∧ (w_X5_number (fun (y_24 : Int64) => (∃ fs_38 : List Value, h_16 a_21 = some (.inr (6, fs_38)) ∧ (w_X5_number (fun (y_25 : Int64) => (∃ fs_36 : List Value, h_16 a_21 = some (.inr (6, fs_36)) ∧ (w_X5_number (fun (y_26 : Int64) => (w_X23_init (fun (h_27 : AH) => (∃ a_28 : Nat, r_13 = some a_28 ∧ (∃ fs_34 : List Value, h_27 a_28 = some (.inr (2, fs_34)) ∧ ((k + 1) + 1 ≤ 60 ∧ (n + 6) + 63 ≤ 4200 ∧ (w_J2_add (fun (z_29 : Int32) (h_30 : AH) => (∀ z_31 : Int32, z_31 = x4 + (nI 1) → (w_X0_minister_161 post b0 x1 n0 (some a_21) x3 z_31 h_30 ((k + 1) + 1) ((n + 6) + 63)))) a_28 (some a_14) h_27))))) a_14 ((y_22).toInt32) ((y_23).toInt32) ((y_24).toInt32) ((y_25).toInt32) ((y_26).toInt32) none h_16)) a_21 (((nI 5) * x4) + (nI 4)) h_16))) a_21 (((nI 5) * x4) + (nI 3)) h_16))) a_21 (((nI 5) * x4) + (nI 2)) h_16))) a_21 (((nI 5) * x4) + (nI 1)) h_16))) a_21 ((nI 5) * x4) h_16)))))))))
def w_X0_minister_61 (post : (Int32) → (AH) → Prop) (b0 : Nat) (x1 : Int32) : Nat → (Option Nat) → (Int32) → (Int32) → (AH) → (Nat) → (Nat) → Prop
 | 0, _, _, _, _, _, _ => False
 | n0 + 1, x2, x3, x4, h, k, n =>
 ((x3 ≤ x4 → (∃ (fs_50 : List Value) (r_53 : Option Nat), h b0 = some (.inr (0, fs_50)) ∧ fs_50[1]? = some (va_rf r_53) ∧ (∃ a_54 : Nat, r_53 = some a_54 ∧ (∃ (fs_55 : List Value) (r_58 : Option Nat), h a_54 = some (.inr (1, fs_55)) ∧ fs_55[7]? = some (va_rf r_58) ∧ (∃ a_59 : Nat, r_58 = some a_59 ∧ (∃ fs_70 : List Value, h a_59 = some (.inr (2, fs_70)) ∧ (w_J2_size (fun (z_60 : Int32) => (((z_60 + x3) ≤ (nI 60) → (∃ n1 : Nat, (w_X0_minister_161 post b0 x1 n1 x2 x3 (nI 0) h k n))) ∧ (¬ (z_60 + x3) ≤ (nI 60) → (∃ fs_68 : List Value, h b0 = some (.inr (0, fs_68)) ∧ (w_X0_refuse (fun (z_66 : Int32) (h_67 : AH) => (post z_66 h_67)) b0 (-4) h))))) a_59 h))))))) ∧ (¬ x3 ≤ x4 → (∃ a_72 : Nat, x2 = some a_72 ∧ (∃ fs_96 : List Value, h a_72 = some (.inr (6, fs_96)) ∧ (w_X5_number (fun (y_73 : Int64) => (∃ fs_94 : List Value, h a_72 = some (.inr (6, fs_94)) ∧ (w_X5_number (fun (y_74 : Int64) => (∃ fs_92 : List Value, h a_72 = some (.inr (6, fs_92)) ∧ (w_X5_number (fun (y_75 : Int64) => (∃ fs_90 : List Value, h a_72 = some (.inr (6, fs_90)) ∧ (w_X5_number (fun (y_76 : Int64) => (∃ fs_88 : List Value, h a_72 = some (.inr (6, fs_88)) ∧ (w_X5_number (fun (y_77 : Int64) => (w_X0_isAnswer (fun (z_78 : Int32) => ((¬ z_78 = 0 → (∀ z_83 : Int32, z_83 = x4 + (nI 1) → (w_X0_minister_61 post b0 x1 n0 (some a_72) x3 z_83 h k n))) ∧ (z_78 = 0 → (∃ fs_86 : List Value, h b0 = some (.inr (0, fs_86)) ∧ (w_X0_refuse (fun (z_84 : Int32) (h_85 : AH) => (post z_84 h_85)) b0 (-3) h))))) y_73 y_74 y_75 y_76 y_77)) a_72 (((nI 5) * x4) + (nI 4)) h))) a_72 (((nI 5) * x4) + (nI 3)) h))) a_72 (((nI 5) * x4) + (nI 2)) h))) a_72 (((nI 5) * x4) + (nI 1)) h))) a_72 ((nI 5) * x4) h)))))
def w_X0_minister (post : (Int32) → (AH) → Prop) (b0 : Nat) (x1 : Int32) (h : AH) : Prop :=
 (w_X0_isRow (fun (z_98 : Int32) => ((¬ z_98 = 0 → (∃ (fs_103 : List Value) (r_106 : Option Nat), h b0 = some (.inr (0, fs_103)) ∧ fs_103[22]? = some (va_rf r_106) ∧ (∃ a_107 : Nat, r_106 = some a_107 ∧ (∃ (N_108 : Nat) (g_109 : Nat → Option Nat), h a_107 = some (.inl (8, N_108, .inr (.inr (.inr (.inr g_109))))) ∧ vp_in x1 N_108 ∧ ∀ r_112 : Option Nat, r_112 = g_109 (x1).toNatClampNeg → (∃ a_113 : Nat, r_112 = some a_113 ∧ (∃ (fs_114 : List Value) (r_117 : Option Nat), h a_113 = some (.inr (6, fs_114)) ∧ fs_114[0]? = some (va_rf r_117) ∧ ((r_117 = none → (∃ fs_125 : List Value, h b0 = some (.inr (0, fs_125)) ∧ (w_X0_refuse (fun (z_123 : Int32) (h_124 : AH) => (post z_123 h_124)) b0 (-6) h))) ∧ (∀ a_119 : Nat, r_117 = some a_119 → (∃ fs_141 : List Value, h a_113 = some (.inr (6, fs_141)) ∧ (w_X5_many (fun (z_127 : Int32) => (∀ z_128 : Int32, z_128 = (z_127 / (nI 5)) → (∃ fs_139 : List Value, h a_113 = some (.inr (6, fs_139)) ∧ (w_X5_many (fun (z_129 : Int32) => (((z_129 - z_129 / (nI 5) * (nI 5)) = 0 → (∃ n1 : Nat, (w_X0_minister_61 post b0 x1 n1 (some a_113) z_128 (nI 0) h 0 0))) ∧ (¬ (z_129 - z_129 / (nI 5) * (nI 5)) = 0 → (∃ fs_137 : List Value, h b0 = some (.inr (0, fs_137)) ∧ (w_X0_refuse (fun (z_135 : Int32) (h_136 : AH) => (post z_135 h_136)) b0 (-7) h))))) a_113 h)))) a_113 h)))))))))) ∧ (z_98 = 0 → (∃ fs_145 : List Value, h b0 = some (.inr (0, fs_145)) ∧ (w_X0_refuse (fun (z_143 : Int32) (h_144 : AH) => (post z_143 h_144)) b0 (-2) h))))) x1)
theorem b_X0_minister_161 {post : (Int32) → (AH) → Prop}   {b0 : Nat} {x1 : Int32}    : ∀ (n0 : Nat) (x2 : Option Nat) (x3 : Int32) (x4 : Int32) (h : AH) (k : Nat) (n : Nat), w_X0_minister_161 post b0 x1 n0 x2 x3 x4 h k n → VV l E X cX0_minister RX0 "minister" 5 r_X0_minister (some .int) (vpi (fun (r : Int32) (h' : AH) => post r h')) h k n 161 [(0, va_rf (some b0)), (1, .int x1), (2, va_rf x2), (3, .int x3), (4, .int x4)] [] := by
  intro n0
  induction n0 with
  | zero =>
    intro x2 x3 x4 h k n hw
    exact hw.elim
  | succ n0 ih =>
    intro x2 x3 x4 h k n hw
    refine v_iload (q := 4) dX0_minister_161 rfl ?_
    refine v_iload_n (q := 3) dX0_minister_163 rfl rfl ?_
    obtain ⟨hw_3, hw_4⟩ := hw
    refine v_icmp_ge (tgt := 245) dX0_minister_164 (by decide) (fun c_1 => ?_) (fun c_2 => ?_)
    · have hw := hw_3 c_1
      refine v_iload_n (q := 3) dX0_minister_245 rfl rfl ?_
      exact v_iret dX0_minister_246 rfl ⟨_, rfl, hw⟩
    · have hw := hw_4 c_2
      refine v_aload_n (q := 0) dX0_minister_167 rfl rfl ?_
      obtain ⟨fs_5, r_8, e_6, e_7, hw⟩ := hw
      refine v_get in_X0 (ci := 0) rfl 1 (Nat.le_of_ble_eq_true rfl) q319 rfl dX0_minister_168 e_6 e_7 ?_
      obtain ⟨a_9, ea_9, hw⟩ := hw
      subst ea_9
      obtain ⟨fs_10, r_13, e_11, e_12, hw⟩ := hw
      refine v_getN in_X1 (ci := 1) rfl 7 (Nat.le_of_ble_eq_true rfl) q234 rfl dX0_minister_171 e_11 e_12 ?_
      obtain ⟨e_17, e_18, hw⟩ := hw
      refine v_new in_X23 (ci := 23) rfl tyX23 tyX23_ok q1244 q1245 q139 dfX23_ok e_17 e_18 dX0_minister_174 (fun a_14 e_15 => ?_)
      obtain ⟨h_16, eh_16⟩ : ∃ z9 : AH, z9 = va_up h a_14 (some (.inr (23, dfX23))) := ⟨_, rfl⟩
      replace hw := hw a_14 e_15 h_16 eh_16
      rw [← eh_16]
      refine v_dup dX0_minister_177 (v_rf1 _) ?_
      refine v_aload_n (q := 2) dX0_minister_178 rfl rfl ?_
      refine v_iconst dX0_minister_179 ic_5 ?_
      refine v_iload (q := 4) dX0_minister_180 rfl ?_
      refine v_imul dX0_minister_182 ?_
      obtain ⟨a_21, ea_21, hw⟩ := hw
      subst ea_21
      obtain ⟨fs_44, e_45, hw⟩ := hw
      refine v_callV0 q1525 q1526 q1527 q112 q1528 (ci := 6) rfl e_45 n_X5_number ⟨Nat.le_of_ble_eq_true rfl, Nat.le_of_ble_eq_true rfl⟩ [.int ((nI 5) * x4)] [va_rf (some a_14), va_rf (some a_14), va_rf r_13] (met_X5_number hw) rfl (by simp only [List.map_cons, List.map_nil, List.sum_cons, List.sum_nil, v_rf1, v_cI, v_cJ]; decide) rfl rfl dX0_minister_183 rfl (v_kl (fun y_22 h1 hv => ?_))
      clear hw
      obtain ⟨e9, hw⟩ := hv
      refine v_heap e9 ?_
      clear e9
      refine v_l2i dX0_minister_186 ?_
      refine v_aload_n (q := 2) dX0_minister_187 rfl rfl ?_
      refine v_iconst dX0_minister_188 ic_5 ?_
      refine v_iload (q := 4) dX0_minister_189 rfl ?_
      refine v_imul dX0_minister_191 ?_
      refine v_iconst dX0_minister_192 ic_1 ?_
      refine v_iadd dX0_minister_193 ?_
      obtain ⟨fs_42, e_43, hw⟩ := hw
      refine v_callV0 q1525 q1526 q1527 q112 q1528 (ci := 6) rfl e_43 n_X5_number ⟨Nat.le_of_ble_eq_true rfl, Nat.le_of_ble_eq_true rfl⟩ [.int (((nI 5) * x4) + (nI 1))] [.int ((y_22).toInt32), va_rf (some a_14), va_rf (some a_14), va_rf r_13] (met_X5_number hw) rfl (by simp only [List.map_cons, List.map_nil, List.sum_cons, List.sum_nil, v_rf1, v_cI, v_cJ]; decide) rfl rfl dX0_minister_194 rfl (v_kl (fun y_23 h1 hv => ?_))
      clear hw
      obtain ⟨e9, hw⟩ := hv
      refine v_heap e9 ?_
      clear e9
      refine v_l2i dX0_minister_197 ?_
      refine v_aload_n (q := 2) dX0_minister_198 rfl rfl ?_
      refine v_iconst dX0_minister_199 ic_5 ?_
      refine v_iload (q := 4) dX0_minister_200 rfl ?_
      refine v_imul dX0_minister_202 ?_
      refine v_iconst dX0_minister_203 ic_2 ?_
      refine v_iadd dX0_minister_204 ?_
      obtain ⟨fs_40, e_41, hw⟩ := hw
      refine v_callV0 q1525 q1526 q1527 q112 q1528 (ci := 6) rfl e_41 n_X5_number ⟨Nat.le_of_ble_eq_true rfl, Nat.le_of_ble_eq_true rfl⟩ [.int (((nI 5) * x4) + (nI 2))] [.int ((y_23).toInt32), .int ((y_22).toInt32), va_rf (some a_14), va_rf (some a_14), va_rf r_13] (met_X5_number hw) rfl (by simp only [List.map_cons, List.map_nil, List.sum_cons, List.sum_nil, v_rf1, v_cI, v_cJ]; decide) rfl rfl dX0_minister_205 rfl (v_kl (fun y_24 h1 hv => ?_))
      clear hw
      obtain ⟨e9, hw⟩ := hv
      refine v_heap e9 ?_
      clear e9
      refine v_l2i dX0_minister_208 ?_
      refine v_aload_n (q := 2) dX0_minister_209 rfl rfl ?_
      refine v_iconst dX0_minister_210 ic_5 ?_
      refine v_iload (q := 4) dX0_minister_211 rfl ?_
      refine v_imul dX0_minister_213 ?_
      refine v_iconst dX0_minister_214 ic_3 ?_
      refine v_iadd dX0_minister_215 ?_
      obtain ⟨fs_38, e_39, hw⟩ := hw
      refine v_callV0 q1525 q1526 q1527 q112 q1528 (ci := 6) rfl e_39 n_X5_number ⟨Nat.le_of_ble_eq_true rfl, Nat.le_of_ble_eq_true rfl⟩ [.int (((nI 5) * x4) + (nI 3))] [.int ((y_24).toInt32), .int ((y_23).toInt32), .int ((y_22).toInt32), va_rf (some a_14), va_rf (some a_14), va_rf r_13] (met_X5_number hw) rfl (by simp only [List.map_cons, List.map_nil, List.sum_cons, List.sum_nil, v_rf1, v_cI, v_cJ]; decide) rfl rfl dX0_minister_216 rfl (v_kl (fun y_25 h1 hv => ?_))
      clear hw
      obtain ⟨e9, hw⟩ := hv
      refine v_heap e9 ?_
      clear e9
      refine v_l2i dX0_minister_219 ?_
      refine v_aload_n (q := 2) dX0_minister_220 rfl rfl ?_
      refine v_iconst dX0_minister_221 ic_5 ?_
      refine v_iload (q := 4) dX0_minister_222 rfl ?_
      refine v_imul dX0_minister_224 ?_
      refine v_iconst dX0_minister_225 ic_4 ?_
      refine v_iadd dX0_minister_226 ?_
      obtain ⟨fs_36, e_37, hw⟩ := hw
      refine v_callV0 q1525 q1526 q1527 q112 q1528 (ci := 6) rfl e_37 n_X5_number ⟨Nat.le_of_ble_eq_true rfl, Nat.le_of_ble_eq_true rfl⟩ [.int (((nI 5) * x4) + (nI 4))] [.int ((y_25).toInt32), .int ((y_24).toInt32), .int ((y_23).toInt32), .int ((y_22).toInt32), va_rf (some a_14), va_rf (some a_14), va_rf r_13] (met_X5_number hw) rfl (by simp only [List.map_cons, List.map_nil, List.sum_cons, List.sum_nil, v_rf1, v_cI, v_cJ]; decide) rfl rfl dX0_minister_227 rfl (v_kl (fun y_26 h1 hv => ?_))
      clear hw
      obtain ⟨e9, hw⟩ := hv
      refine v_heap e9 ?_
      clear e9
      refine v_l2i dX0_minister_230 ?_
      refine v_null dX0_minister_231 ?_
      refine v_callI0 q1246 q1247 q139 q1248 rfl n_X23_init ⟨Nat.le_of_ble_eq_true rfl, Nat.le_of_ble_eq_true rfl⟩ [.int ((y_22).toInt32), .int ((y_23).toInt32), .int ((y_24).toInt32), .int ((y_25).toInt32), .int ((y_26).toInt32), va_rf none] [va_rf (some a_14), va_rf r_13] (met_X23_init hw) rfl (by simp only [List.map_cons, List.map_nil, List.sum_cons, List.sum_nil, v_rf1, v_cI, v_cJ]; decide) rfl rfl dX0_minister_232 rfl (v_kv (fun h_27 hv => ?_))
      clear hw
      have hw := hv
      clear hv
      obtain ⟨a_28, ea_28, hw⟩ := hw
      subst ea_28
      obtain ⟨fs_34, e_35, hw⟩ := hw
      obtain ⟨e_32, e_33, hw⟩ := hw
      refine v_callV q445 q446 q447 q108 q448 (ci := 2) rfl e_35 n_J2_add ⟨Nat.le_of_ble_eq_true rfl, Nat.le_of_ble_eq_true rfl⟩ [va_rf (some a_14)] [] (met_J2_add hw) rfl (Nat.zero_le _) ⟨e_32, e_33⟩ dX0_minister_235 rfl (v_ki (fun z_29 h_30 hv => ?_))
      clear hw
      have hw := hv
      clear hv
      refine v_pop dX0_minister_238 rfl ?_
      obtain ⟨z_31, e_31⟩ : ∃ z9 : Int32, z9 = x4 + (nI 1) := ⟨_, rfl⟩
      replace hw := hw z_31 e_31
      refine v_iinc (q := 4) (v := z_31) (lv1 := [(4, .int z_31), (0, va_rf (some b0)), (1, .int x1), (2, va_rf (some a_21)), (3, .int x3)]) dX0_minister_239 rfl (by rw [e_31, ic_1]) (Nat.le_of_ble_eq_true rfl) rfl ?_
      refine v_goto (tgt := 161) dX0_minister_242 (by decide) ?_
      refine v_sub [1, 2, 3, 4, 0] rfl ?_
      exact ih (some a_21) x3 z_31 h_30 ((k + 1) + 1) ((n + 6) + 63) hw
theorem b_X0_minister_61 {post : (Int32) → (AH) → Prop}   {b0 : Nat} {x1 : Int32}    : ∀ (n0 : Nat) (x2 : Option Nat) (x3 : Int32) (x4 : Int32) (h : AH) (k : Nat) (n : Nat), w_X0_minister_61 post b0 x1 n0 x2 x3 x4 h k n → VV l E X cX0_minister RX0 "minister" 5 r_X0_minister (some .int) (vpi (fun (r : Int32) (h' : AH) => post r h')) h k n 61 [(0, va_rf (some b0)), (1, .int x1), (2, va_rf x2), (3, .int x3), (4, .int x4)] [] := by
  intro n0
  induction n0 with
  | zero =>
    intro x2 x3 x4 h k n hw
    exact hw.elim
  | succ n0 ih =>
    intro x2 x3 x4 h k n hw
    refine v_iload (q := 4) dX0_minister_61 rfl ?_
    refine v_iload_n (q := 3) dX0_minister_63 rfl rfl ?_
    obtain ⟨hw_48, hw_49⟩ := hw
    refine v_icmp_ge (tgt := 134) dX0_minister_64 (by decide) (fun c_46 => ?_) (fun c_47 => ?_)
    · have hw := hw_48 c_46
      refine v_aload_n (q := 0) dX0_minister_134 rfl rfl ?_
      obtain ⟨fs_50, r_53, e_51, e_52, hw⟩ := hw
      refine v_get in_X0 (ci := 0) rfl 1 (Nat.le_of_ble_eq_true rfl) q319 rfl dX0_minister_135 e_51 e_52 ?_
      obtain ⟨a_54, ea_54, hw⟩ := hw
      subst ea_54
      obtain ⟨fs_55, r_58, e_56, e_57, hw⟩ := hw
      refine v_getN in_X1 (ci := 1) rfl 7 (Nat.le_of_ble_eq_true rfl) q234 rfl dX0_minister_138 e_56 e_57 ?_
      obtain ⟨a_59, ea_59, hw⟩ := hw
      subst ea_59
      obtain ⟨fs_70, e_71, hw⟩ := hw
      refine v_callV0 q413 q414 q415 q108 q416 (ci := 2) rfl e_71 n_J2_size ⟨Nat.le_of_ble_eq_true rfl, Nat.le_of_ble_eq_true rfl⟩ [] [] (met_J2_size hw) rfl (Nat.zero_le _) rfl rfl dX0_minister_141 rfl (v_ki (fun z_60 h1 hv => ?_))
      clear hw
      obtain ⟨e9, hw⟩ := hv
      refine v_heap e9 ?_
      clear e9
      refine v_iload_n (q := 3) dX0_minister_144 rfl rfl ?_
      refine v_iadd dX0_minister_145 ?_
      refine v_bipush dX0_minister_146 bp_60 ?_
      obtain ⟨hw_63, hw_64⟩ := hw
      refine v_icmp_le (tgt := 158) dX0_minister_148 (by decide) (fun c_61 => ?_) (fun c_62 => ?_)
      · have hw := hw_63 c_61
        refine v_iconst dX0_minister_158 ic_0 ?_
        refine v_istore (lv1 := [(4, .int (nI 0)), (0, va_rf (some b0)), (1, .int x1), (2, va_rf x2), (3, .int x3)]) dX0_minister_159 (Nat.le_of_ble_eq_true rfl) rfl ?_
        obtain ⟨n_65, hw⟩ := hw
        refine v_sub [1, 2, 3, 4, 0] rfl ?_
        exact b_X0_minister_161 n_65 x2 x3 (nI 0) h k n hw
      · have hw := hw_64 c_62
        refine v_aload_n (q := 0) dX0_minister_151 rfl rfl ?_
        refine v_bipush dX0_minister_152 bp_m4 ?_
        obtain ⟨fs_68, e_69, hw⟩ := hw
        refine v_callV0 q396 q398 qs0 q104 q399 (ci := 0) rfl e_69 n_X0_refuse ⟨Nat.le_of_ble_eq_true rfl, Nat.le_of_ble_eq_true rfl⟩ [.int (-4)] [] (met_X0_refuse hw) rfl (Nat.zero_le _) rfl rfl dX0_minister_154 rfl (v_ki (fun z_66 h_67 hv => ?_))
        clear hw
        have hw := hv
        clear hv
        exact v_iret dX0_minister_157 rfl ⟨_, rfl, hw⟩
    · have hw := hw_49 c_47
      refine v_aload_n (q := 2) dX0_minister_67 rfl rfl ?_
      refine v_iconst dX0_minister_68 ic_5 ?_
      refine v_iload (q := 4) dX0_minister_69 rfl ?_
      refine v_imul dX0_minister_71 ?_
      obtain ⟨a_72, ea_72, hw⟩ := hw
      subst ea_72
      obtain ⟨fs_96, e_97, hw⟩ := hw
      refine v_callV0 q1525 q1526 q1527 q112 q1528 (ci := 6) rfl e_97 n_X5_number ⟨Nat.le_of_ble_eq_true rfl, Nat.le_of_ble_eq_true rfl⟩ [.int ((nI 5) * x4)] [] (met_X5_number hw) rfl (Nat.zero_le _) rfl rfl dX0_minister_72 rfl (v_kl (fun y_73 h1 hv => ?_))
      clear hw
      obtain ⟨e9, hw⟩ := hv
      refine v_heap e9 ?_
      clear e9
      refine v_aload_n (q := 2) dX0_minister_75 rfl rfl ?_
      refine v_iconst dX0_minister_76 ic_5 ?_
      refine v_iload (q := 4) dX0_minister_77 rfl ?_
      refine v_imul dX0_minister_79 ?_
      refine v_iconst dX0_minister_80 ic_1 ?_
      refine v_iadd dX0_minister_81 ?_
      obtain ⟨fs_94, e_95, hw⟩ := hw
      refine v_callV0 q1525 q1526 q1527 q112 q1528 (ci := 6) rfl e_95 n_X5_number ⟨Nat.le_of_ble_eq_true rfl, Nat.le_of_ble_eq_true rfl⟩ [.int (((nI 5) * x4) + (nI 1))] [.long y_73] (met_X5_number hw) rfl (Nat.le_of_ble_eq_true rfl) rfl rfl dX0_minister_82 rfl (v_kl (fun y_74 h1 hv => ?_))
      clear hw
      obtain ⟨e9, hw⟩ := hv
      refine v_heap e9 ?_
      clear e9
      refine v_aload_n (q := 2) dX0_minister_85 rfl rfl ?_
      refine v_iconst dX0_minister_86 ic_5 ?_
      refine v_iload (q := 4) dX0_minister_87 rfl ?_
      refine v_imul dX0_minister_89 ?_
      refine v_iconst dX0_minister_90 ic_2 ?_
      refine v_iadd dX0_minister_91 ?_
      obtain ⟨fs_92, e_93, hw⟩ := hw
      refine v_callV0 q1525 q1526 q1527 q112 q1528 (ci := 6) rfl e_93 n_X5_number ⟨Nat.le_of_ble_eq_true rfl, Nat.le_of_ble_eq_true rfl⟩ [.int (((nI 5) * x4) + (nI 2))] [.long y_74, .long y_73] (met_X5_number hw) rfl (Nat.le_of_ble_eq_true rfl) rfl rfl dX0_minister_92 rfl (v_kl (fun y_75 h1 hv => ?_))
      clear hw
      obtain ⟨e9, hw⟩ := hv
      refine v_heap e9 ?_
      clear e9
      refine v_aload_n (q := 2) dX0_minister_95 rfl rfl ?_
      refine v_iconst dX0_minister_96 ic_5 ?_
      refine v_iload (q := 4) dX0_minister_97 rfl ?_
      refine v_imul dX0_minister_99 ?_
      refine v_iconst dX0_minister_100 ic_3 ?_
      refine v_iadd dX0_minister_101 ?_
      obtain ⟨fs_90, e_91, hw⟩ := hw
      refine v_callV0 q1525 q1526 q1527 q112 q1528 (ci := 6) rfl e_91 n_X5_number ⟨Nat.le_of_ble_eq_true rfl, Nat.le_of_ble_eq_true rfl⟩ [.int (((nI 5) * x4) + (nI 3))] [.long y_75, .long y_74, .long y_73] (met_X5_number hw) rfl (Nat.le_of_ble_eq_true rfl) rfl rfl dX0_minister_102 rfl (v_kl (fun y_76 h1 hv => ?_))
      clear hw
      obtain ⟨e9, hw⟩ := hv
      refine v_heap e9 ?_
      clear e9
      refine v_aload_n (q := 2) dX0_minister_105 rfl rfl ?_
      refine v_iconst dX0_minister_106 ic_5 ?_
      refine v_iload (q := 4) dX0_minister_107 rfl ?_
      refine v_imul dX0_minister_109 ?_
      refine v_iconst dX0_minister_110 ic_4 ?_
      refine v_iadd dX0_minister_111 ?_
      obtain ⟨fs_88, e_89, hw⟩ := hw
      refine v_callV0 q1525 q1526 q1527 q112 q1528 (ci := 6) rfl e_89 n_X5_number ⟨Nat.le_of_ble_eq_true rfl, Nat.le_of_ble_eq_true rfl⟩ [.int (((nI 5) * x4) + (nI 4))] [.long y_76, .long y_75, .long y_74, .long y_73] (met_X5_number hw) rfl (Nat.le_of_ble_eq_true rfl) rfl rfl dX0_minister_112 rfl (v_kl (fun y_77 h1 hv => ?_))
      clear hw
      obtain ⟨e9, hw⟩ := hv
      refine v_heap e9 ?_
      clear e9
      refine v_callS0 q1241 q1242 q104 q1243 n_X0_isAnswer ⟨Nat.le_of_ble_eq_true rfl, Nat.le_of_ble_eq_true rfl⟩ [.long y_73, .long y_74, .long y_75, .long y_76, .long y_77] [] (met_X0_isAnswer hw) rfl (Nat.zero_le _) rfl rfl dX0_minister_115 rfl (v_ki (fun z_78 h1 hv => ?_))
      clear hw
      obtain ⟨e9, hw⟩ := hv
      refine v_heap e9 ?_
      clear e9
      obtain ⟨hw_81, hw_82⟩ := hw
      refine v_if_ne (tgt := 128) dX0_minister_118 (by decide) (fun c_79 => ?_) (fun c_80 => ?_)
      · have hw := hw_81 c_79
        obtain ⟨z_83, e_83⟩ : ∃ z9 : Int32, z9 = x4 + (nI 1) := ⟨_, rfl⟩
        replace hw := hw z_83 e_83
        refine v_iinc (q := 4) (v := z_83) (lv1 := [(4, .int z_83), (0, va_rf (some b0)), (1, .int x1), (2, va_rf (some a_72)), (3, .int x3)]) dX0_minister_128 rfl (by rw [e_83, ic_1]) (Nat.le_of_ble_eq_true rfl) rfl ?_
        refine v_goto (tgt := 61) dX0_minister_131 (by decide) ?_
        refine v_sub [1, 2, 3, 4, 0] rfl ?_
        exact ih (some a_72) x3 z_83 h k n hw
      · have hw := hw_82 c_80
        refine v_aload_n (q := 0) dX0_minister_121 rfl rfl ?_
        refine v_bipush dX0_minister_122 bp_m3 ?_
        obtain ⟨fs_86, e_87, hw⟩ := hw
        refine v_callV0 q396 q398 qs0 q104 q399 (ci := 0) rfl e_87 n_X0_refuse ⟨Nat.le_of_ble_eq_true rfl, Nat.le_of_ble_eq_true rfl⟩ [.int (-3)] [] (met_X0_refuse hw) rfl (Nat.zero_le _) rfl rfl dX0_minister_124 rfl (v_ki (fun z_84 h_85 hv => ?_))
        clear hw
        have hw := hv
        clear hv
        exact v_iret dX0_minister_127 rfl ⟨_, rfl, hw⟩
theorem e_X0_minister {post : (Int32) → (AH) → Prop}   {b0 : Nat} {x1 : Int32} {h : AH}  (hw : w_X0_minister post  b0 x1 h) : VV l E X cX0_minister RX0 "minister" 5 r_X0_minister (some .int) (vpi (fun (r : Int32) (h' : AH) => post r h')) h 0 0 0 [(0, va_rf (some b0)), (1, .int x1)] [] := by
  refine v_iload_n (q := 1) dX0_minister_0 rfl rfl ?_
  refine v_callS0 q1377 q1378 q104 q1379 n_X0_isRow ⟨Nat.le_of_ble_eq_true rfl, Nat.le_of_ble_eq_true rfl⟩ [.int x1] [] (met_X0_isRow hw) rfl (Nat.zero_le _) rfl rfl dX0_minister_1 rfl (v_ki (fun z_98 h1 hv => ?_))
  clear hw
  obtain ⟨e9, hw⟩ := hv
  refine v_heap e9 ?_
  clear e9
  obtain ⟨hw_101, hw_102⟩ := hw
  refine v_if_ne (tgt := 14) dX0_minister_4 (by decide) (fun c_99 => ?_) (fun c_100 => ?_)
  · have hw := hw_101 c_99
    refine v_aload_n (q := 0) dX0_minister_14 rfl rfl ?_
    obtain ⟨fs_103, r_106, e_104, e_105, hw⟩ := hw
    refine v_get in_X0 (ci := 0) rfl 22 (Nat.le_of_ble_eq_true rfl) q341 rfl dX0_minister_15 e_104 e_105 ?_
    refine v_iload_n (q := 1) dX0_minister_18 rfl rfl ?_
    obtain ⟨a_107, ea_107, hw⟩ := hw
    subst ea_107
    obtain ⟨N_108, g_109, e_110, hi_111, hw⟩ := hw
    refine v_aaldR dX0_minister_19 e_110 hi_111 ?_
    refine v_topq (fun r_112 er_112 => ?_)
    replace hw := hw r_112 er_112
    refine v_astore_n (lv1 := [(2, va_rf r_112), (0, va_rf (some b0)), (1, .int x1)]) dX0_minister_20 rfl (Nat.le_of_ble_eq_true rfl) rfl ?_
    refine v_aload_n (q := 0) dX0_minister_21 rfl rfl ?_
    obtain ⟨a_113, ea_113, hw⟩ := hw
    subst ea_113
    obtain ⟨fs_114, r_117, e_115, e_116, hw⟩ := hw
    refine v_getN in_X5 (ci := 6) rfl 0 (Nat.le_of_ble_eq_true rfl) q314 rfl dX0_minister_22 e_115 e_116 ?_
    obtain ⟨hw_121, hw_122⟩ := hw
    refine v_ifnonnull (tgt := 35) dX0_minister_25 (by decide) (fun c_118 => ?_) (fun a_119 c_120 => ?_)
    · have hw := hw_121 c_118
      subst c_118
      refine v_aload_n (q := 1) dX0_minister_28 rfl rfl ?_
      refine v_bipush dX0_minister_29 bp_m6 ?_
      obtain ⟨fs_125, e_126, hw⟩ := hw
      refine v_callV0 q396 q398 qs0 q104 q399 (ci := 0) rfl e_126 n_X0_refuse ⟨Nat.le_of_ble_eq_true rfl, Nat.le_of_ble_eq_true rfl⟩ [.int (-6)] [] (met_X0_refuse hw) rfl (Nat.zero_le _) rfl rfl dX0_minister_31 rfl (v_ki (fun z_123 h_124 hv => ?_))
      clear hw
      have hw := hv
      clear hv
      exact v_iret dX0_minister_34 rfl ⟨_, rfl, hw⟩
    · have hw := hw_122 a_119 c_120
      subst c_120
      refine v_aload_n (q := 0) dX0_minister_35 rfl rfl ?_
      obtain ⟨fs_141, e_142, hw⟩ := hw
      refine v_callV0 q1533 q1534 q1535 q112 q1536 (ci := 6) rfl e_142 n_X5_many ⟨Nat.le_of_ble_eq_true rfl, Nat.le_of_ble_eq_true rfl⟩ [] [] (met_X5_many hw) rfl (Nat.zero_le _) rfl rfl dX0_minister_36 rfl (v_ki (fun z_127 h1 hv => ?_))
      clear hw
      obtain ⟨e9, hw⟩ := hv
      refine v_heap e9 ?_
      clear e9
      refine v_iconst dX0_minister_39 ic_5 ?_
      refine v_idiv dX0_minister_40 (by decide) ?_
      refine v_topi (fun z_128 e_128 => ?_)
      replace hw := hw z_128 e_128
      refine v_istore_n (lv1 := [(3, .int z_128), (2, va_rf (some a_113)), (0, va_rf (some b0)), (1, .int x1)]) dX0_minister_41 rfl (Nat.le_of_ble_eq_true rfl) rfl ?_
      refine v_aload_n (q := 1) dX0_minister_42 rfl rfl ?_
      obtain ⟨fs_139, e_140, hw⟩ := hw
      refine v_callV0 q1533 q1534 q1535 q112 q1536 (ci := 6) rfl e_140 n_X5_many ⟨Nat.le_of_ble_eq_true rfl, Nat.le_of_ble_eq_true rfl⟩ [] [] (met_X5_many hw) rfl (Nat.zero_le _) rfl rfl dX0_minister_43 rfl (v_ki (fun z_129 h1 hv => ?_))
      clear hw
      obtain ⟨e9, hw⟩ := hv
      refine v_heap e9 ?_
      clear e9
      refine v_iconst dX0_minister_46 ic_5 ?_
      refine v_irem dX0_minister_47 (by decide) ?_
      obtain ⟨hw_132, hw_133⟩ := hw
      refine v_if_eq (tgt := 58) dX0_minister_48 (by decide) (fun c_130 => ?_) (fun c_131 => ?_)
      · have hw := hw_132 c_130
        refine v_iconst dX0_minister_58 ic_0 ?_
        refine v_istore (lv1 := [(4, .int (nI 0)), (3, .int z_128), (2, va_rf (some a_113)), (0, va_rf (some b0)), (1, .int x1)]) dX0_minister_59 (Nat.le_of_ble_eq_true rfl) rfl ?_
        obtain ⟨n_134, hw⟩ := hw
        refine v_sub [3, 4, 2, 1, 0] rfl ?_
        exact b_X0_minister_61 n_134 (some a_113) z_128 (nI 0) h 0 0 hw
      · have hw := hw_133 c_131
        refine v_aload_n (q := 2) dX0_minister_51 rfl rfl ?_
        refine v_bipush dX0_minister_52 bp_m7 ?_
        obtain ⟨fs_137, e_138, hw⟩ := hw
        refine v_callV0 q396 q398 qs0 q104 q399 (ci := 0) rfl e_138 n_X0_refuse ⟨Nat.le_of_ble_eq_true rfl, Nat.le_of_ble_eq_true rfl⟩ [.int (-7)] [] (met_X0_refuse hw) rfl (Nat.zero_le _) rfl rfl dX0_minister_54 rfl (v_ki (fun z_135 h_136 hv => ?_))
        clear hw
        have hw := hv
        clear hv
        exact v_iret dX0_minister_57 rfl ⟨_, rfl, hw⟩
  · have hw := hw_102 c_100
    refine v_aload_n (q := 0) dX0_minister_7 rfl rfl ?_
    refine v_bipush dX0_minister_8 bp_m2 ?_
    obtain ⟨fs_145, e_146, hw⟩ := hw
    refine v_callV0 q396 q398 qs0 q104 q399 (ci := 0) rfl e_146 n_X0_refuse ⟨Nat.le_of_ble_eq_true rfl, Nat.le_of_ble_eq_true rfl⟩ [.int (-2)] [] (met_X0_refuse hw) rfl (Nat.zero_le _) rfl rfl dX0_minister_10 rfl (v_ki (fun z_143 h_144 hv => ?_))
    clear hw
    have hw := hv
    clear hv
    exact v_iret dX0_minister_13 rfl ⟨_, rfl, hw⟩
theorem met_X0_minister {post : (Int32) → (AH) → Prop}   {b0 : Nat} {x1 : Int32} {h : AH}  (hw : w_X0_minister post  b0 x1 h) : Mt l E yX0_minister (ws_ yX0_minister cX0_minister 5 (some .int)) r_X0_minister [va_rf (some b0), .int x1] h (vpi (fun (r : Int32) (h' : AH) => post r h')) := v_entry (by decide +kernel) (Nat.le_of_ble_eq_true rfl) rfl (fun _ => e_X0_minister hw)
/-! X0_isInLate -/
abbrev r_X0_isInLate : Room := { frames := 3, cells := 0, slots := 0, locals := 64 }
theorem n_X0_isInLate : vdn yX0_isInLate 1 := ⟨by decide +kernel, by decide +kernel, by decide +kernel⟩
def w_X0_isInLate_89 (post : (Int32) → (AH) → Prop) (k2 : (Int32) → (AH) → Prop) (b0 : Nat) (x1 : Option Nat) (x2 : Int32) (h : AH) : Prop :=
 (∀ z_1 : Int32, z_1 = x2 + (nI 1) → (k2 z_1 h))
def w_X0_isInLate_34 (post : (Int32) → (AH) → Prop) (k2 : (Int32) → (AH) → Prop) (b0 : Nat) (x1 : Option Nat) : Nat → (Int32) → (Option Nat) → (Int32) → (AH) → Prop
 | 0, _, _, _, _ => False
 | n0 + 1, x2, x3, x4, h =>
 (∃ fs_49 : List Value, h b0 = some (.inr (0, fs_49)) ∧ (w_X0_isEarly (fun (z_2 : Int32) => ((¬ z_2 = 0 → (w_X0_isInLate_89 post k2 b0 x1 x2 h)) ∧ (z_2 = 0 → (∃ a_7 : Nat, x3 = some a_7 ∧ (∃ (fs_8 : List Value) (r_11 : Option Nat), h a_7 = some (.inr (8, fs_8)) ∧ fs_8[4]? = some (va_rf r_11) ∧ (∃ a_12 : Nat, r_11 = some a_12 ∧ (∃ fs_47 : List Value, h a_12 = some (.inr (2, fs_47)) ∧ (w_J2_size (fun (z_13 : Int32) => ((z_13 ≤ x4 → (w_X0_isInLate_89 post k2 b0 x1 x2 h)) ∧ (¬ z_13 ≤ x4 → (∃ (fs_18 : List Value) (r_21 : Option Nat), h a_7 = some (.inr (8, fs_18)) ∧ fs_18[4]? = some (va_rf r_21) ∧ (∃ a_22 : Nat, r_21 = some a_22 ∧ (∃ fs_45 : List Value, h a_22 = some (.inr (2, fs_45)) ∧ (w_J2_get (fun (r_23 : Option Nat) => (∃ a_24 : Nat, r_23 = some a_24 ∧ (∃ fs_25 : List Value, h a_24 = some (.inr (9, fs_25)) ∧ (∃ fs_43 : List Value, h b0 = some (.inr (0, fs_43)) ∧ (w_X0_likeness (fun (z_27 : Int32) (h_28 : AH) => (∃ (fs_29 : List Value) (r_32 : Option Nat), h_28 b0 = some (.inr (0, fs_29)) ∧ fs_29[1]? = some (va_rf r_32) ∧ (∃ a_33 : Nat, r_32 = some a_33 ∧ (∃ (fs_34 : List Value) (z_37 : Int32), h_28 a_33 = some (.inr (1, fs_34)) ∧ fs_34[1]? = some (.int z_37) ∧ ((z_27 < z_37 → (∀ z_42 : Int32, z_42 = x4 + (nI 1) → (w_X0_isInLate_34 post k2 b0 x1 n0 x2 (some a_7) z_42 h_28))) ∧ (¬ z_27 < z_37 → (post (nI 1) h_28))))))) b0 x1 (some a_24) h))))) a_22 x4 h))))))) a_12 h)))))))) b0 x3 h))
def w_X0_isInLate_2 (post : (Int32) → (AH) → Prop) (b0 : Nat) (x1 : Option Nat) : Nat → (Int32) → (AH) → Prop
 | 0, _, _ => False
 | n0 + 1, x2, h =>
 (∃ (fs_51 : List Value) (r_54 : Option Nat), h b0 = some (.inr (0, fs_51)) ∧ fs_51[1]? = some (va_rf r_54) ∧ (∃ a_55 : Nat, r_54 = some a_55 ∧ (∃ (fs_56 : List Value) (r_59 : Option Nat), h a_55 = some (.inr (1, fs_56)) ∧ fs_56[3]? = some (va_rf r_59) ∧ (∃ a_60 : Nat, r_59 = some a_60 ∧ (∃ fs_83 : List Value, h a_60 = some (.inr (2, fs_83)) ∧ (w_J2_size (fun (z_61 : Int32) => ((z_61 ≤ x2 → (post (nI 0) h)) ∧ (¬ z_61 ≤ x2 → (∃ (fs_66 : List Value) (r_69 : Option Nat), h b0 = some (.inr (0, fs_66)) ∧ fs_66[1]? = some (va_rf r_69) ∧ (∃ a_70 : Nat, r_69 = some a_70 ∧ (∃ (fs_71 : List Value) (r_74 : Option Nat), h a_70 = some (.inr (1, fs_71)) ∧ fs_71[3]? = some (va_rf r_74) ∧ (∃ a_75 : Nat, r_74 = some a_75 ∧ (∃ fs_81 : List Value, h a_75 = some (.inr (2, fs_81)) ∧ (w_J2_get (fun (r_76 : Option Nat) => (∃ a_77 : Nat, r_76 = some a_77 ∧ (∃ fs_78 : List Value, h a_77 = some (.inr (8, fs_78)) ∧ (∃ n1 : Nat, (w_X0_isInLate_34 post (fun (q0 : Int32) (q1 : AH) => w_X0_isInLate_2 post b0 x1 n0 q0 q1) b0 x1 n1 x2 (some a_77) (nI 0) h))))) a_75 x2 h))))))))) a_60 h))))))
def w_X0_isInLate (post : (Int32) → (AH) → Prop) (b0 : Nat) (x1 : Option Nat) (h : AH) : Prop :=
 (∃ n1 : Nat, (w_X0_isInLate_2 post b0 x1 n1 (nI 0) h))
theorem b_X0_isInLate_89 {post : (Int32) → (AH) → Prop}   {b0 : Nat} {x1 : Option Nat} {k2 : (Int32) → (AH) → Prop}  (hk2 : ∀ (x2 : Int32) (h : AH), k2 x2 h → VV l E X cX0_isInLate RX0 "isInLate" 5 r_X0_isInLate (some .boolean) (vpi (fun (r : Int32) (h' : AH) => post r h')) h 0 0 2 [(0, va_rf (some b0)), (1, va_rf x1), (2, .int x2)] []) (x2 : Int32) (h : AH) (hw : w_X0_isInLate_89 post k2 b0 x1 x2 h) : VV l E X cX0_isInLate RX0 "isInLate" 5 r_X0_isInLate (some .boolean) (vpi (fun (r : Int32) (h' : AH) => post r h')) h 0 0 89 [(0, va_rf (some b0)), (1, va_rf x1), (2, .int x2)] [] := by
  obtain ⟨z_1, e_1⟩ : ∃ z9 : Int32, z9 = x2 + (nI 1) := ⟨_, rfl⟩
  replace hw := hw z_1 e_1
  refine v_iinc (q := 2) (v := z_1) (lv1 := [(2, .int z_1), (0, va_rf (some b0)), (1, va_rf x1)]) dX0_isInLate_89 rfl (by rw [e_1, ic_1]) (Nat.le_of_ble_eq_true rfl) (by cases x1 <;> rfl) ?_
  refine v_goto (tgt := 2) dX0_isInLate_92 (by decide) ?_
  refine v_sub [1, 2, 0] rfl ?_
  exact hk2 z_1 h hw
theorem b_X0_isInLate_34 {post : (Int32) → (AH) → Prop}   {b0 : Nat} {x1 : Option Nat} {k2 : (Int32) → (AH) → Prop}  (hk2 : ∀ (x2 : Int32) (h : AH), k2 x2 h → VV l E X cX0_isInLate RX0 "isInLate" 5 r_X0_isInLate (some .boolean) (vpi (fun (r : Int32) (h' : AH) => post r h')) h 0 0 2 [(0, va_rf (some b0)), (1, va_rf x1), (2, .int x2)] []) : ∀ (n0 : Nat) (x2 : Int32) (x3 : Option Nat) (x4 : Int32) (h : AH), w_X0_isInLate_34 post k2 b0 x1 n0 x2 x3 x4 h → VV l E X cX0_isInLate RX0 "isInLate" 5 r_X0_isInLate (some .boolean) (vpi (fun (r : Int32) (h' : AH) => post r h')) h 0 0 34 [(0, va_rf (some b0)), (1, va_rf x1), (2, .int x2), (3, va_rf x3), (4, .int x4)] [] := by
  intro n0
  induction n0 with
  | zero =>
    intro x2 x3 x4 h hw
    exact hw.elim
  | succ n0 ih =>
    intro x2 x3 x4 h hw
    refine v_aload_n (q := 0) dX0_isInLate_34 rfl rfl ?_
    refine v_aload_n (q := 3) dX0_isInLate_35 rfl rfl ?_
    obtain ⟨fs_49, e_50, hw⟩ := hw
    refine v_callV q1015 q1017 qs33 q104 q1018 (ci := 0) rfl e_50 n_X0_isEarly ⟨Nat.le_of_ble_eq_true rfl, Nat.le_of_ble_eq_true rfl⟩ [va_rf x3] [] (met_X0_isEarly hw) rfl (Nat.zero_le _) ⟨Nat.le_refl _, Nat.le_refl _⟩ dX0_isInLate_36 rfl (v_ki (fun z_2 h1 hv => ?_))
    clear hw
    obtain ⟨e9, hw⟩ := hv
    refine v_heap e9 ?_
    clear e9
    obtain ⟨hw_5, hw_6⟩ := hw
    refine v_if_ne (tgt := 89) dX0_isInLate_39 (by decide) (fun c_3 => ?_) (fun c_4 => ?_)
    · have hw := hw_5 c_3
      refine v_sub [0, 1, 2] rfl ?_
      exact b_X0_isInLate_89 hk2 x2 h hw
    · have hw := hw_6 c_4
      refine v_iload (q := 4) dX0_isInLate_42 rfl ?_
      refine v_aload_n (q := 3) dX0_isInLate_44 rfl rfl ?_
      obtain ⟨a_7, ea_7, hw⟩ := hw
      subst ea_7
      obtain ⟨fs_8, r_11, e_9, e_10, hw⟩ := hw
      refine v_getN in_X7 (ci := 8) rfl 4 (Nat.le_of_ble_eq_true rfl) q433 rfl dX0_isInLate_45 e_9 e_10 ?_
      obtain ⟨a_12, ea_12, hw⟩ := hw
      subst ea_12
      obtain ⟨fs_47, e_48, hw⟩ := hw
      refine v_callV q413 q414 q415 q108 q416 (ci := 2) rfl e_48 n_J2_size ⟨Nat.le_of_ble_eq_true rfl, Nat.le_of_ble_eq_true rfl⟩ [] [.int x4] (met_J2_size hw) rfl (Nat.le_of_ble_eq_true rfl) ⟨Nat.le_refl _, Nat.le_refl _⟩ dX0_isInLate_48 rfl (v_ki (fun z_13 h1 hv => ?_))
      clear hw
      obtain ⟨e9, hw⟩ := hv
      refine v_heap e9 ?_
      clear e9
      obtain ⟨hw_16, hw_17⟩ := hw
      refine v_icmp_ge (tgt := 89) dX0_isInLate_51 (by decide) (fun c_14 => ?_) (fun c_15 => ?_)
      · have hw := hw_16 c_14
        refine v_sub [0, 1, 2] rfl ?_
        exact b_X0_isInLate_89 hk2 x2 h hw
      · have hw := hw_17 c_15
        refine v_aload_n (q := 0) dX0_isInLate_54 rfl rfl ?_
        refine v_aload_n (q := 1) dX0_isInLate_55 rfl rfl ?_
        refine v_aload_n (q := 3) dX0_isInLate_56 rfl rfl ?_
        obtain ⟨fs_18, r_21, e_19, e_20, hw⟩ := hw
        refine v_getN in_X7 (ci := 8) rfl 4 (Nat.le_of_ble_eq_true rfl) q433 rfl dX0_isInLate_57 e_19 e_20 ?_
        refine v_iload (q := 4) dX0_isInLate_60 rfl ?_
        obtain ⟨a_22, ea_22, hw⟩ := hw
        subst ea_22
        obtain ⟨fs_45, e_46, hw⟩ := hw
        refine v_callV q577 q578 q579 q108 q580 (ci := 2) rfl e_46 n_J2_get ⟨Nat.le_of_ble_eq_true rfl, Nat.le_of_ble_eq_true rfl⟩ [.int x4] [va_rf x1, va_rf (some b0)] (met_J2_get hw) rfl (by simp only [List.map_cons, List.map_nil, List.sum_cons, List.sum_nil, v_rf1, v_cI, v_cJ]; decide) ⟨Nat.le_refl _, Nat.le_refl _⟩ dX0_isInLate_62 rfl (v_kq (fun r_23 h1 hv => ?_))
        clear hw
        obtain ⟨e9, hw⟩ := hv
        refine v_heap e9 ?_
        clear e9
        obtain ⟨a_24, ea_24, hw⟩ := hw
        subst ea_24
        obtain ⟨fs_25, e_26, hw⟩ := hw
        refine v_cast (ci := 9) rfl q304 dX0_isInLate_65 e_26 ?_
        obtain ⟨fs_43, e_44, hw⟩ := hw
        refine v_callV q621 q623 qs8 q104 q624 (ci := 0) rfl e_44 n_X0_likeness ⟨Nat.le_of_ble_eq_true rfl, Nat.le_of_ble_eq_true rfl⟩ [va_rf x1, va_rf (some a_24)] [] (met_X0_likeness hw) rfl (Nat.zero_le _) ⟨Nat.le_refl _, Nat.le_refl _⟩ dX0_isInLate_68 rfl (v_ki (fun z_27 h_28 hv => ?_))
        clear hw
        have hw := hv
        clear hv
        refine v_aload_n (q := 0) dX0_isInLate_71 rfl rfl ?_
        obtain ⟨fs_29, r_32, e_30, e_31, hw⟩ := hw
        refine v_get in_X0 (ci := 0) rfl 1 (Nat.le_of_ble_eq_true rfl) q319 rfl dX0_isInLate_72 e_30 e_31 ?_
        obtain ⟨a_33, ea_33, hw⟩ := hw
        subst ea_33
        obtain ⟨fs_34, z_37, e_35, e_36, hw⟩ := hw
        refine v_getN in_X1 (ci := 1) rfl 1 (Nat.le_of_ble_eq_true rfl) q222 rfl dX0_isInLate_75 e_35 e_36 ?_
        obtain ⟨hw_40, hw_41⟩ := hw
        refine v_icmp_lt (tgt := 83) dX0_isInLate_78 (by decide) (fun c_38 => ?_) (fun c_39 => ?_)
        · have hw := hw_40 c_38
          obtain ⟨z_42, e_42⟩ : ∃ z9 : Int32, z9 = x4 + (nI 1) := ⟨_, rfl⟩
          replace hw := hw z_42 e_42
          refine v_iinc (q := 4) (v := z_42) (lv1 := [(4, .int z_42), (0, va_rf (some b0)), (1, va_rf x1), (2, .int x2), (3, va_rf (some a_7))]) dX0_isInLate_83 rfl (by rw [e_42, ic_1]) (Nat.le_of_ble_eq_true rfl) rfl ?_
          refine v_goto (tgt := 34) dX0_isInLate_86 (by decide) ?_
          refine v_sub [1, 2, 3, 4, 0] rfl ?_
          exact ih x2 (some a_7) z_42 h_28 hw
        · have hw := hw_41 c_39
          refine v_iconst dX0_isInLate_81 ic_1 ?_
          exact v_zret dX0_isInLate_82 rfl rfl ⟨_, rfl, hw⟩
theorem b_X0_isInLate_2 {post : (Int32) → (AH) → Prop}   {b0 : Nat} {x1 : Option Nat}    : ∀ (n0 : Nat) (x2 : Int32) (h : AH), w_X0_isInLate_2 post b0 x1 n0 x2 h → VV l E X cX0_isInLate RX0 "isInLate" 5 r_X0_isInLate (some .boolean) (vpi (fun (r : Int32) (h' : AH) => post r h')) h 0 0 2 [(0, va_rf (some b0)), (1, va_rf x1), (2, .int x2)] [] := by
  intro n0
  induction n0 with
  | zero =>
    intro x2 h hw
    exact hw.elim
  | succ n0 ih =>
    intro x2 h hw
    refine v_iload_n (q := 2) dX0_isInLate_2 rfl rfl ?_
    refine v_aload_n (q := 0) dX0_isInLate_3 rfl rfl ?_
    obtain ⟨fs_51, r_54, e_52, e_53, hw⟩ := hw
    refine v_get in_X0 (ci := 0) rfl 1 (Nat.le_of_ble_eq_true rfl) q319 rfl dX0_isInLate_4 e_52 e_53 ?_
    obtain ⟨a_55, ea_55, hw⟩ := hw
    subst ea_55
    obtain ⟨fs_56, r_59, e_57, e_58, hw⟩ := hw
    refine v_getN in_X1 (ci := 1) rfl 3 (Nat.le_of_ble_eq_true rfl) q226 rfl dX0_isInLate_7 e_57 e_58 ?_
    obtain ⟨a_60, ea_60, hw⟩ := hw
    subst ea_60
    obtain ⟨fs_83, e_84, hw⟩ := hw
    refine v_callV q413 q414 q415 q108 q416 (ci := 2) rfl e_84 n_J2_size ⟨Nat.le_of_ble_eq_true rfl, Nat.le_of_ble_eq_true rfl⟩ [] [.int x2] (met_J2_size hw) rfl (Nat.le_of_ble_eq_true rfl) ⟨Nat.le_refl _, Nat.le_refl _⟩ dX0_isInLate_10 rfl (v_ki (fun z_61 h1 hv => ?_))
    clear hw
    obtain ⟨e9, hw⟩ := hv
    refine v_heap e9 ?_
    clear e9
    obtain ⟨hw_64, hw_65⟩ := hw
    refine v_icmp_ge (tgt := 95) dX0_isInLate_13 (by decide) (fun c_62 => ?_) (fun c_63 => ?_)
    · have hw := hw_64 c_62
      refine v_iconst dX0_isInLate_95 ic_0 ?_
      exact v_zret dX0_isInLate_96 rfl rfl ⟨_, rfl, hw⟩
    · have hw := hw_65 c_63
      refine v_aload_n (q := 0) dX0_isInLate_16 rfl rfl ?_
      obtain ⟨fs_66, r_69, e_67, e_68, hw⟩ := hw
      refine v_get in_X0 (ci := 0) rfl 1 (Nat.le_of_ble_eq_true rfl) q319 rfl dX0_isInLate_17 e_67 e_68 ?_
      obtain ⟨a_70, ea_70, hw⟩ := hw
      subst ea_70
      obtain ⟨fs_71, r_74, e_72, e_73, hw⟩ := hw
      refine v_getN in_X1 (ci := 1) rfl 3 (Nat.le_of_ble_eq_true rfl) q226 rfl dX0_isInLate_20 e_72 e_73 ?_
      refine v_iload_n (q := 2) dX0_isInLate_23 rfl rfl ?_
      obtain ⟨a_75, ea_75, hw⟩ := hw
      subst ea_75
      obtain ⟨fs_81, e_82, hw⟩ := hw
      refine v_callV q577 q578 q579 q108 q580 (ci := 2) rfl e_82 n_J2_get ⟨Nat.le_of_ble_eq_true rfl, Nat.le_of_ble_eq_true rfl⟩ [.int x2] [] (met_J2_get hw) rfl (Nat.zero_le _) ⟨Nat.le_refl _, Nat.le_refl _⟩ dX0_isInLate_24 rfl (v_kq (fun r_76 h1 hv => ?_))
      clear hw
      obtain ⟨e9, hw⟩ := hv
      refine v_heap e9 ?_
      clear e9
      obtain ⟨a_77, ea_77, hw⟩ := hw
      subst ea_77
      obtain ⟨fs_78, e_79, hw⟩ := hw
      refine v_cast (ci := 8) rfl q417 dX0_isInLate_27 e_79 ?_
      refine v_astore_n (lv1 := [(3, va_rf (some a_77)), (0, va_rf (some b0)), (1, va_rf x1), (2, .int x2)]) dX0_isInLate_30 rfl (Nat.le_of_ble_eq_true rfl) rfl ?_
      refine v_iconst dX0_isInLate_31 ic_0 ?_
      refine v_istore (lv1 := [(4, .int (nI 0)), (3, va_rf (some a_77)), (0, va_rf (some b0)), (1, va_rf x1), (2, .int x2)]) dX0_isInLate_32 (Nat.le_of_ble_eq_true rfl) rfl ?_
      obtain ⟨n_80, hw⟩ := hw
      refine v_sub [2, 3, 4, 1, 0] rfl ?_
      exact b_X0_isInLate_34 (fun q0 q1 z => ih q0 q1 z) n_80 x2 (some a_77) (nI 0) h hw
theorem e_X0_isInLate {post : (Int32) → (AH) → Prop}   {b0 : Nat} {x1 : Option Nat} {h : AH}  (hw : w_X0_isInLate post  b0 x1 h) : VV l E X cX0_isInLate RX0 "isInLate" 5 r_X0_isInLate (some .boolean) (vpi (fun (r : Int32) (h' : AH) => post r h')) h 0 0 0 [(0, va_rf (some b0)), (1, va_rf x1)] [] := by
  refine v_iconst dX0_isInLate_0 ic_0 ?_
  refine v_istore_n (lv1 := [(2, .int (nI 0)), (0, va_rf (some b0)), (1, va_rf x1)]) dX0_isInLate_1 rfl (Nat.le_of_ble_eq_true rfl) (by cases x1 <;> rfl) ?_
  obtain ⟨n_85, hw⟩ := hw
  refine v_sub [1, 2, 0] rfl ?_
  exact b_X0_isInLate_2 n_85 (nI 0) h hw
theorem met_X0_isInLate {post : (Int32) → (AH) → Prop}   {b0 : Nat} {x1 : Option Nat} {h : AH}  (hw : w_X0_isInLate post  b0 x1 h) : Mt l E yX0_isInLate (ws_ yX0_isInLate cX0_isInLate 5 (some .boolean)) r_X0_isInLate [va_rf (some b0), va_rf x1] h (vpi (fun (r : Int32) (h' : AH) => post r h')) := v_entry (by decide +kernel) (by cases x1 <;> exact (Nat.le_of_ble_eq_true rfl)) (by cases x1 <;> exact rfl) (fun _ => e_X0_isInLate hw)
/-! X7_copy -/
abbrev r_X7_copy : Room := { frames := 8, cells := 15, slots := 766, locals := 228 }
theorem n_X7_copy : vdn yX7_copy 0 := ⟨by decide +kernel, by decide +kernel, by decide +kernel⟩
def w_X7_copy_26 (post : (Option Nat) → (AH) → Prop) (b0 : Nat) : Nat → (Option Nat) → (Int32) → (AH) → (Nat) → (Nat) → Prop
 | 0, _, _, _, _, _ => False
 | n0 + 1, x1, x2, h, k, n =>
 (∃ (fs_1 : List Value) (r_4 : Option Nat), h b0 = some (.inr (8, fs_1)) ∧ fs_1[4]? = some (va_rf r_4) ∧ (∃ a_5 : Nat, r_4 = some a_5 ∧ (∃ fs_35 : List Value, h a_5 = some (.inr (2, fs_35)) ∧ (w_J2_size (fun (z_6 : Int32) => ((z_6 ≤ x2 → (post x1 h)) ∧ (¬ z_6 ≤ x2 → (∃ a_11 : Nat, x1 = some a_11 ∧ (∃ (fs_12 : List Value) (r_15 : Option Nat), h a_11 = some (.inr (8, fs_12)) ∧ fs_12[4]? = some (va_rf r_15) ∧ (∃ (fs_16 : List Value) (r_19 : Option Nat), h b0 = some (.inr (8, fs_16)) ∧ fs_16[4]? = some (va_rf r_19) ∧ (∃ a_20 : Nat, r_19 = some a_20 ∧ (∃ fs_33 : List Value, h a_20 = some (.inr (2, fs_33)) ∧ (w_J2_get (fun (r_21 : Option Nat) => (∃ a_22 : Nat, r_21 = some a_22 ∧ (∃ fs_23 : List Value, h a_22 = some (.inr (9, fs_23)) ∧ (∃ a_25 : Nat, r_15 = some a_25 ∧ (∃ fs_31 : List Value, h a_25 = some (.inr (2, fs_31)) ∧ (k + 1 ≤ 15 ∧ n + 63 ≤ 766 ∧ (w_J2_add (fun (z_26 : Int32) (h_27 : AH) => (∀ z_28 : Int32, z_28 = x2 + (nI 1) → (w_X7_copy_26 post b0 n0 (some a_11) z_28 h_27 (k + 1) (n + 63)))) a_25 (some a_22) h))))))) a_20 x2 h))))))))) a_5 h))))
def w_X7_copy (post : (Option Nat) → (AH) → Prop) (b0 : Nat) (h : AH) : Prop :=
 (0 + 1 ≤ 15 ∧ 0 + 5 ≤ 766 ∧ ∀ a_37 : Nat, h a_37 = none → ∀ h_39 : AH, h_39 = va_up h a_37 (some (.inr (8, dfX7))) → (∃ (fs_44 : List Value) (z_47 : Int32), h_39 b0 = some (.inr (8, fs_44)) ∧ fs_44[0]? = some (.int z_47) ∧ (∃ (fs_48 : List Value) (z_51 : Int32), h_39 b0 = some (.inr (8, fs_48)) ∧ fs_48[1]? = some (.int z_51) ∧ (∃ (fs_52 : List Value) (z_55 : Int32), h_39 b0 = some (.inr (8, fs_52)) ∧ fs_52[2]? = some (.int z_55) ∧ (∃ (fs_56 : List Value) (z_59 : Int32), h_39 b0 = some (.inr (8, fs_56)) ∧ fs_56[3]? = some (.int z_59) ∧ ((0 + 1) + 2 ≤ 15 ∧ (0 + 5) + 5 ≤ 766 ∧ (w_X7_init (fun (h_60 : AH) => (∃ n1 : Nat, (w_X7_copy_26 post b0 n1 (some a_37) (nI 0) h_60 ((0 + 1) + 2) ((0 + 5) + 5)))) a_37 z_47 z_51 z_55 z_59 h_39)))))))
theorem b_X7_copy_26 {post : (Option Nat) → (AH) → Prop}   {b0 : Nat}    : ∀ (n0 : Nat) (x1 : Option Nat) (x2 : Int32) (h : AH) (k : Nat) (n : Nat), w_X7_copy_26 post b0 n0 x1 x2 h k n → VV l E X cX7_copy RX7 "copy" 3 r_X7_copy (some (.object "NobodysBard$Owner")) (vpq (fun (r : Option Nat) (h' : AH) => post r h')) h k n 26 [(0, va_rf (some b0)), (1, va_rf x1), (2, .int x2)] [] := by
  intro n0
  induction n0 with
  | zero =>
    intro x1 x2 h k n hw
    exact hw.elim
  | succ n0 ih =>
    intro x1 x2 h k n hw
    refine v_iload_n (q := 2) dX7_copy_26 rfl rfl ?_
    refine v_aload_n (q := 0) dX7_copy_27 rfl rfl ?_
    obtain ⟨fs_1, r_4, e_2, e_3, hw⟩ := hw
    refine v_get in_X7 (ci := 8) rfl 4 (Nat.le_of_ble_eq_true rfl) q432 rfl dX7_copy_28 e_2 e_3 ?_
    obtain ⟨a_5, ea_5, hw⟩ := hw
    subst ea_5
    obtain ⟨fs_35, e_36, hw⟩ := hw
    refine v_callV0 q1582 q414 q415 q108 q416 (ci := 2) rfl e_36 n_J2_size ⟨Nat.le_of_ble_eq_true rfl, Nat.le_of_ble_eq_true rfl⟩ [] [.int x2] (met_J2_size hw) rfl (Nat.le_of_ble_eq_true rfl) rfl rfl dX7_copy_31 rfl (v_ki (fun z_6 h1 hv => ?_))
    clear hw
    obtain ⟨e9, hw⟩ := hv
    refine v_heap e9 ?_
    clear e9
    obtain ⟨hw_9, hw_10⟩ := hw
    refine v_icmp_ge (tgt := 62) dX7_copy_34 (by decide) (fun c_7 => ?_) (fun c_8 => ?_)
    · have hw := hw_9 c_7
      refine v_aload_n (q := 1) dX7_copy_62 rfl rfl ?_
      exact v_aret dX7_copy_63 rfl (Or.inl ⟨_, rfl⟩) ⟨_, rfl, hw⟩
    · have hw := hw_10 c_8
      refine v_aload_n (q := 1) dX7_copy_37 rfl rfl ?_
      obtain ⟨a_11, ea_11, hw⟩ := hw
      subst ea_11
      obtain ⟨fs_12, r_15, e_13, e_14, hw⟩ := hw
      refine v_get in_X7 (ci := 8) rfl 4 (Nat.le_of_ble_eq_true rfl) q432 rfl dX7_copy_38 e_13 e_14 ?_
      refine v_aload_n (q := 0) dX7_copy_41 rfl rfl ?_
      obtain ⟨fs_16, r_19, e_17, e_18, hw⟩ := hw
      refine v_get in_X7 (ci := 8) rfl 4 (Nat.le_of_ble_eq_true rfl) q432 rfl dX7_copy_42 e_17 e_18 ?_
      refine v_iload_n (q := 2) dX7_copy_45 rfl rfl ?_
      obtain ⟨a_20, ea_20, hw⟩ := hw
      subst ea_20
      obtain ⟨fs_33, e_34, hw⟩ := hw
      refine v_callV0 q1583 q578 q579 q108 q580 (ci := 2) rfl e_34 n_J2_get ⟨Nat.le_of_ble_eq_true rfl, Nat.le_of_ble_eq_true rfl⟩ [.int x2] [va_rf r_15] (met_J2_get hw) rfl (by simp only [List.map_cons, List.map_nil, List.sum_cons, List.sum_nil, v_rf1, v_cI, v_cJ]; decide) rfl rfl dX7_copy_46 rfl (v_kq (fun r_21 h1 hv => ?_))
      clear hw
      obtain ⟨e9, hw⟩ := hv
      refine v_heap e9 ?_
      clear e9
      obtain ⟨a_22, ea_22, hw⟩ := hw
      subst ea_22
      obtain ⟨fs_23, e_24, hw⟩ := hw
      refine v_cast (ci := 9) rfl q1584 dX7_copy_49 e_24 ?_
      obtain ⟨a_25, ea_25, hw⟩ := hw
      subst ea_25
      obtain ⟨fs_31, e_32, hw⟩ := hw
      obtain ⟨e_29, e_30, hw⟩ := hw
      refine v_callV q1585 q446 q447 q108 q448 (ci := 2) rfl e_32 n_J2_add ⟨Nat.le_of_ble_eq_true rfl, Nat.le_of_ble_eq_true rfl⟩ [va_rf (some a_22)] [] (met_J2_add hw) rfl (Nat.zero_le _) ⟨e_29, e_30⟩ dX7_copy_52 rfl (v_ki (fun z_26 h_27 hv => ?_))
      clear hw
      have hw := hv
      clear hv
      refine v_pop dX7_copy_55 rfl ?_
      obtain ⟨z_28, e_28⟩ : ∃ z9 : Int32, z9 = x2 + (nI 1) := ⟨_, rfl⟩
      replace hw := hw z_28 e_28
      refine v_iinc (q := 2) (v := z_28) (lv1 := [(2, .int z_28), (0, va_rf (some b0)), (1, va_rf (some a_11))]) dX7_copy_56 rfl (by rw [e_28, ic_1]) (Nat.le_of_ble_eq_true rfl) rfl ?_
      refine v_goto (tgt := 26) dX7_copy_59 (by decide) ?_
      refine v_sub [1, 2, 0] rfl ?_
      exact ih (some a_11) z_28 h_27 (k + 1) (n + 63) hw
theorem e_X7_copy {post : (Option Nat) → (AH) → Prop}   {b0 : Nat} {h : AH}  (hw : w_X7_copy post  b0 h) : VV l E X cX7_copy RX7 "copy" 3 r_X7_copy (some (.object "NobodysBard$Owner")) (vpq (fun (r : Option Nat) (h' : AH) => post r h')) h 0 0 0 [(0, va_rf (some b0))] [] := by
  obtain ⟨e_40, e_41, hw⟩ := hw
  refine v_new in_X7 (ci := 8) rfl tyX7 tyX7_ok q1580 q418 q114 dfX7_ok e_40 e_41 dX7_copy_0 (fun a_37 e_38 => ?_)
  obtain ⟨h_39, eh_39⟩ : ∃ z9 : AH, z9 = va_up h a_37 (some (.inr (8, dfX7))) := ⟨_, rfl⟩
  replace hw := hw a_37 e_38 h_39 eh_39
  rw [← eh_39]
  refine v_dup dX7_copy_3 (v_rf1 _) ?_
  refine v_aload_n (q := 0) dX7_copy_4 rfl rfl ?_
  obtain ⟨fs_44, z_47, e_45, e_46, hw⟩ := hw
  refine v_get in_X7 (ci := 8) rfl 0 (Nat.le_of_ble_eq_true rfl) q425 rfl dX7_copy_5 e_45 e_46 ?_
  refine v_aload_n (q := 0) dX7_copy_8 rfl rfl ?_
  obtain ⟨fs_48, z_51, e_49, e_50, hw⟩ := hw
  refine v_get in_X7 (ci := 8) rfl 1 (Nat.le_of_ble_eq_true rfl) q427 rfl dX7_copy_9 e_49 e_50 ?_
  refine v_aload_n (q := 0) dX7_copy_12 rfl rfl ?_
  obtain ⟨fs_52, z_55, e_53, e_54, hw⟩ := hw
  refine v_get in_X7 (ci := 8) rfl 2 (Nat.le_of_ble_eq_true rfl) q429 rfl dX7_copy_13 e_53 e_54 ?_
  refine v_aload_n (q := 0) dX7_copy_16 rfl rfl ?_
  obtain ⟨fs_56, z_59, e_57, e_58, hw⟩ := hw
  refine v_get in_X7 (ci := 8) rfl 3 (Nat.le_of_ble_eq_true rfl) q430 rfl dX7_copy_17 e_57 e_58 ?_
  obtain ⟨e_62, e_63, hw⟩ := hw
  refine v_callI q1581 q420 q114 q421 rfl n_X7_init ⟨Nat.le_of_ble_eq_true rfl, Nat.le_of_ble_eq_true rfl⟩ [.int z_47, .int z_51, .int z_55, .int z_59] [va_rf (some a_37)] (met_X7_init hw) rfl (by simp only [List.map_cons, List.map_nil, List.sum_cons, List.sum_nil, v_rf1, v_cI, v_cJ]; decide) ⟨e_62, e_63⟩ dX7_copy_20 rfl (v_kv (fun h_60 hv => ?_))
  clear hw
  have hw := hv
  clear hv
  refine v_astore_n (lv1 := [(1, va_rf (some a_37)), (0, va_rf (some b0))]) dX7_copy_23 rfl (Nat.le_of_ble_eq_true rfl) rfl ?_
  refine v_iconst dX7_copy_24 ic_0 ?_
  refine v_istore_n (lv1 := [(2, .int (nI 0)), (1, va_rf (some a_37)), (0, va_rf (some b0))]) dX7_copy_25 rfl (Nat.le_of_ble_eq_true rfl) rfl ?_
  obtain ⟨n_61, hw⟩ := hw
  refine v_sub [2, 1, 0] rfl ?_
  exact b_X7_copy_26 n_61 (some a_37) (nI 0) h_60 ((0 + 1) + 2) ((0 + 5) + 5) hw
theorem met_X7_copy {post : (Option Nat) → (AH) → Prop}   {b0 : Nat} {h : AH}  (hw : w_X7_copy post  b0 h) : Mt l E yX7_copy (ws_ yX7_copy cX7_copy 3 (some (.object "NobodysBard$Owner"))) r_X7_copy [va_rf (some b0)] h (vpq (fun (r : Option Nat) (h' : AH) => post r h')) := v_entry (by decide +kernel) (Nat.le_of_ble_eq_true rfl) rfl (fun _ => e_X7_copy hw)
/-! X1_copies -/
abbrev r_X1_copies : Room := { frames := 9, cells := 640, slots := 33160, locals := 250 }
theorem n_X1_copies : vdn yX1_copies 2 := ⟨by decide +kernel, by decide +kernel, by decide +kernel⟩
def w_X1_copies_2 (post : (AH) → Prop) (x0 : Option Nat) (x1 : Option Nat) : Nat → (Int32) → (AH) → (Nat) → (Nat) → Prop
 | 0, _, _, _, _ => False
 | n0 + 1, x2, h, k, n =>
 (∃ a_1 : Nat, x0 = some a_1 ∧ (∃ fs_27 : List Value, h a_1 = some (.inr (2, fs_27)) ∧ (w_J2_size (fun (z_2 : Int32) => ((z_2 ≤ x2 → (post h)) ∧ (¬ z_2 ≤ x2 → (∃ fs_25 : List Value, h a_1 = some (.inr (2, fs_25)) ∧ (w_J2_get (fun (r_7 : Option Nat) => (∃ a_8 : Nat, r_7 = some a_8 ∧ (∃ fs_9 : List Value, h a_8 = some (.inr (8, fs_9)) ∧ (∃ fs_23 : List Value, h a_8 = some (.inr (8, fs_23)) ∧ (k + 15 ≤ 640 ∧ n + 766 ≤ 33160 ∧ (w_X7_copy (fun (r_11 : Option Nat) (h_12 : AH) => (∃ a_13 : Nat, x1 = some a_13 ∧ (∃ fs_19 : List Value, h_12 a_13 = some (.inr (2, fs_19)) ∧ ((k + 15) + 1 ≤ 640 ∧ (n + 766) + 63 ≤ 33160 ∧ (w_J2_add (fun (z_14 : Int32) (h_15 : AH) => (∀ z_16 : Int32, z_16 = x2 + (nI 1) → (w_X1_copies_2 post x0 x1 n0 z_16 h_15 ((k + 15) + 1) ((n + 766) + 63)))) a_13 r_11 h_12))))) a_8 h)))))) a_1 x2 h))))) a_1 h)))
def w_X1_copies (post : (AH) → Prop) (x0 : Option Nat) (x1 : Option Nat) (h : AH) : Prop :=
 (∃ n1 : Nat, (w_X1_copies_2 post x0 x1 n1 (nI 0) h 0 0))
theorem b_X1_copies_2 {post : (AH) → Prop}   {x0 : Option Nat} {x1 : Option Nat}    : ∀ (n0 : Nat) (x2 : Int32) (h : AH) (k : Nat) (n : Nat), w_X1_copies_2 post x0 x1 n0 x2 h k n → VV l E X cX1_copies RX1 "copies" 3 r_X1_copies none (vpv (fun (h' : AH) => post h')) h k n 2 [(0, va_rf x0), (1, va_rf x1), (2, .int x2)] [] := by
  intro n0
  induction n0 with
  | zero =>
    intro x2 h k n hw
    exact hw.elim
  | succ n0 ih =>
    intro x2 h k n hw
    refine v_iload_n (q := 2) dX1_copies_2 rfl rfl ?_
    refine v_aload_n (q := 0) dX1_copies_3 rfl rfl ?_
    obtain ⟨a_1, ea_1, hw⟩ := hw
    subst ea_1
    obtain ⟨fs_27, e_28, hw⟩ := hw
    refine v_callV0 q1573 q414 q415 q108 q416 (ci := 2) rfl e_28 n_J2_size ⟨Nat.le_of_ble_eq_true rfl, Nat.le_of_ble_eq_true rfl⟩ [] [.int x2] (met_J2_size hw) rfl (Nat.le_of_ble_eq_true rfl) rfl rfl dX1_copies_4 rfl (v_ki (fun z_2 h1 hv => ?_))
    clear hw
    obtain ⟨e9, hw⟩ := hv
    refine v_heap e9 ?_
    clear e9
    obtain ⟨hw_5, hw_6⟩ := hw
    refine v_icmp_ge (tgt := 32) dX1_copies_7 (by decide) (fun c_3 => ?_) (fun c_4 => ?_)
    · have hw := hw_5 c_3
      exact v_vret dX1_copies_32 rfl ⟨rfl, hw⟩
    · have hw := hw_6 c_4
      refine v_aload_n (q := 1) dX1_copies_10 rfl rfl ?_
      refine v_aload_n (q := 0) dX1_copies_11 rfl rfl ?_
      refine v_iload_n (q := 2) dX1_copies_12 rfl rfl ?_
      obtain ⟨fs_25, e_26, hw⟩ := hw
      refine v_callV0 q1574 q578 q579 q108 q580 (ci := 2) rfl e_26 n_J2_get ⟨Nat.le_of_ble_eq_true rfl, Nat.le_of_ble_eq_true rfl⟩ [.int x2] [va_rf x1] (met_J2_get hw) rfl (by simp only [List.map_cons, List.map_nil, List.sum_cons, List.sum_nil, v_rf1, v_cI, v_cJ]; decide) rfl rfl dX1_copies_13 rfl (v_kq (fun r_7 h1 hv => ?_))
      clear hw
      obtain ⟨e9, hw⟩ := hv
      refine v_heap e9 ?_
      clear e9
      obtain ⟨a_8, ea_8, hw⟩ := hw
      subst ea_8
      obtain ⟨fs_9, e_10, hw⟩ := hw
      refine v_cast (ci := 8) rfl q1575 dX1_copies_16 e_10 ?_
      obtain ⟨fs_23, e_24, hw⟩ := hw
      obtain ⟨e_21, e_22, hw⟩ := hw
      refine v_callV q1576 q1577 q1578 q114 q1579 (ci := 8) rfl e_24 n_X7_copy ⟨Nat.le_of_ble_eq_true rfl, Nat.le_of_ble_eq_true rfl⟩ [] [va_rf x1] (met_X7_copy hw) rfl (by simp only [List.map_cons, List.map_nil, List.sum_cons, List.sum_nil, v_rf1, v_cI, v_cJ]; decide) ⟨e_21, e_22⟩ dX1_copies_19 rfl (v_kq (fun r_11 h_12 hv => ?_))
      clear hw
      have hw := hv
      clear hv
      obtain ⟨a_13, ea_13, hw⟩ := hw
      subst ea_13
      obtain ⟨fs_19, e_20, hw⟩ := hw
      obtain ⟨e_17, e_18, hw⟩ := hw
      refine v_callV q1586 q446 q447 q108 q448 (ci := 2) rfl e_20 n_J2_add ⟨Nat.le_of_ble_eq_true rfl, Nat.le_of_ble_eq_true rfl⟩ [va_rf r_11] [] (met_J2_add hw) rfl (Nat.zero_le _) ⟨e_17, e_18⟩ dX1_copies_22 rfl (v_ki (fun z_14 h_15 hv => ?_))
      clear hw
      have hw := hv
      clear hv
      refine v_pop dX1_copies_25 rfl ?_
      obtain ⟨z_16, e_16⟩ : ∃ z9 : Int32, z9 = x2 + (nI 1) := ⟨_, rfl⟩
      replace hw := hw z_16 e_16
      refine v_iinc (q := 2) (v := z_16) (lv1 := [(2, .int z_16), (0, va_rf (some a_1)), (1, va_rf (some a_13))]) dX1_copies_26 rfl (by rw [e_16, ic_1]) (Nat.le_of_ble_eq_true rfl) rfl ?_
      refine v_goto (tgt := 2) dX1_copies_29 (by decide) ?_
      refine v_sub [1, 2, 0] rfl ?_
      exact ih z_16 h_15 ((k + 15) + 1) ((n + 766) + 63) hw
theorem e_X1_copies {post : (AH) → Prop}   {x0 : Option Nat} {x1 : Option Nat} {h : AH}  (hw : w_X1_copies post  x0 x1 h) : VV l E X cX1_copies RX1 "copies" 3 r_X1_copies none (vpv (fun (h' : AH) => post h')) h 0 0 0 [(0, va_rf x0), (1, va_rf x1)] [] := by
  refine v_iconst dX1_copies_0 ic_0 ?_
  refine v_istore_n (lv1 := [(2, .int (nI 0)), (0, va_rf x0), (1, va_rf x1)]) dX1_copies_1 rfl (Nat.le_of_ble_eq_true rfl) (by cases x1 <;> rfl) ?_
  obtain ⟨n_29, hw⟩ := hw
  refine v_sub [1, 2, 0] rfl ?_
  exact b_X1_copies_2 n_29 (nI 0) h 0 0 hw
theorem met_X1_copies {post : (AH) → Prop}   {x0 : Option Nat} {x1 : Option Nat} {h : AH}  (hw : w_X1_copies post  x0 x1 h) : Mt l E yX1_copies (ws_ yX1_copies cX1_copies 3 none) r_X1_copies [va_rf x0, va_rf x1] h (vpv (fun (h' : AH) => post h')) := v_entry (by decide +kernel) (by cases x0 <;> cases x1 <;> exact (Nat.le_of_ble_eq_true rfl)) (by cases x0 <;> cases x1 <;> exact rfl) (fun _ => e_X1_copies hw)
/-! X1_same -/
abbrev r_X1_same : Room := { frames := 8, cells := 40, slots := 2520, locals := 228 }
theorem n_X1_same : vdn yX1_same 2 := ⟨by decide +kernel, by decide +kernel, by decide +kernel⟩
def w_X1_same_2 (post : (AH) → Prop) (x0 : Option Nat) (x1 : Option Nat) : Nat → (Int32) → (AH) → (Nat) → (Nat) → Prop
 | 0, _, _, _, _ => False
 | n0 + 1, x2, h, k, n =>
 (∃ a_1 : Nat, x0 = some a_1 ∧ (∃ fs_21 : List Value, h a_1 = some (.inr (2, fs_21)) ∧ (w_J2_size (fun (z_2 : Int32) => ((z_2 ≤ x2 → (post h)) ∧ (¬ z_2 ≤ x2 → (∃ fs_19 : List Value, h a_1 = some (.inr (2, fs_19)) ∧ (w_J2_get (fun (r_7 : Option Nat) => (∃ a_8 : Nat, r_7 = some a_8 ∧ (∃ fs_9 : List Value, h a_8 = some (.inr (24, fs_9)) ∧ (∃ a_11 : Nat, x1 = some a_11 ∧ (∃ fs_17 : List Value, h a_11 = some (.inr (2, fs_17)) ∧ (k + 1 ≤ 40 ∧ n + 63 ≤ 2520 ∧ (w_J2_add (fun (z_12 : Int32) (h_13 : AH) => (∀ z_14 : Int32, z_14 = x2 + (nI 1) → (w_X1_same_2 post x0 x1 n0 z_14 h_13 (k + 1) (n + 63)))) a_11 (some a_8) h))))))) a_1 x2 h))))) a_1 h)))
def w_X1_same (post : (AH) → Prop) (x0 : Option Nat) (x1 : Option Nat) (h : AH) : Prop :=
 (∃ n1 : Nat, (w_X1_same_2 post x0 x1 n1 (nI 0) h 0 0))
theorem b_X1_same_2 {post : (AH) → Prop}   {x0 : Option Nat} {x1 : Option Nat}    : ∀ (n0 : Nat) (x2 : Int32) (h : AH) (k : Nat) (n : Nat), w_X1_same_2 post x0 x1 n0 x2 h k n → VV l E X cX1_same RX1 "same" 3 r_X1_same none (vpv (fun (h' : AH) => post h')) h k n 2 [(0, va_rf x0), (1, va_rf x1), (2, .int x2)] [] := by
  intro n0
  induction n0 with
  | zero =>
    intro x2 h k n hw
    exact hw.elim
  | succ n0 ih =>
    intro x2 h k n hw
    refine v_iload_n (q := 2) dX1_same_2 rfl rfl ?_
    refine v_aload_n (q := 0) dX1_same_3 rfl rfl ?_
    obtain ⟨a_1, ea_1, hw⟩ := hw
    subst ea_1
    obtain ⟨fs_21, e_22, hw⟩ := hw
    refine v_callV0 q1573 q414 q415 q108 q416 (ci := 2) rfl e_22 n_J2_size ⟨Nat.le_of_ble_eq_true rfl, Nat.le_of_ble_eq_true rfl⟩ [] [.int x2] (met_J2_size hw) rfl (Nat.le_of_ble_eq_true rfl) rfl rfl dX1_same_4 rfl (v_ki (fun z_2 h1 hv => ?_))
    clear hw
    obtain ⟨e9, hw⟩ := hv
    refine v_heap e9 ?_
    clear e9
    obtain ⟨hw_5, hw_6⟩ := hw
    refine v_icmp_ge (tgt := 29) dX1_same_7 (by decide) (fun c_3 => ?_) (fun c_4 => ?_)
    · have hw := hw_5 c_3
      exact v_vret dX1_same_29 rfl ⟨rfl, hw⟩
    · have hw := hw_6 c_4
      refine v_aload_n (q := 1) dX1_same_10 rfl rfl ?_
      refine v_aload_n (q := 0) dX1_same_11 rfl rfl ?_
      refine v_iload_n (q := 2) dX1_same_12 rfl rfl ?_
      obtain ⟨fs_19, e_20, hw⟩ := hw
      refine v_callV0 q1574 q578 q579 q108 q580 (ci := 2) rfl e_20 n_J2_get ⟨Nat.le_of_ble_eq_true rfl, Nat.le_of_ble_eq_true rfl⟩ [.int x2] [va_rf x1] (met_J2_get hw) rfl (by simp only [List.map_cons, List.map_nil, List.sum_cons, List.sum_nil, v_rf1, v_cI, v_cJ]; decide) rfl rfl dX1_same_13 rfl (v_kq (fun r_7 h1 hv => ?_))
      clear hw
      obtain ⟨e9, hw⟩ := hv
      refine v_heap e9 ?_
      clear e9
      obtain ⟨a_8, ea_8, hw⟩ := hw
      subst ea_8
      obtain ⟨fs_9, e_10, hw⟩ := hw
      refine v_cast (ci := 24) rfl q1593 dX1_same_16 e_10 ?_
      obtain ⟨a_11, ea_11, hw⟩ := hw
      subst ea_11
      obtain ⟨fs_17, e_18, hw⟩ := hw
      obtain ⟨e_15, e_16, hw⟩ := hw
      refine v_callV q1586 q446 q447 q108 q448 (ci := 2) rfl e_18 n_J2_add ⟨Nat.le_of_ble_eq_true rfl, Nat.le_of_ble_eq_true rfl⟩ [va_rf (some a_8)] [] (met_J2_add hw) rfl (Nat.zero_le _) ⟨e_15, e_16⟩ dX1_same_19 rfl (v_ki (fun z_12 h_13 hv => ?_))
      clear hw
      have hw := hv
      clear hv
      refine v_pop dX1_same_22 rfl ?_
      obtain ⟨z_14, e_14⟩ : ∃ z9 : Int32, z9 = x2 + (nI 1) := ⟨_, rfl⟩
      replace hw := hw z_14 e_14
      refine v_iinc (q := 2) (v := z_14) (lv1 := [(2, .int z_14), (0, va_rf (some a_1)), (1, va_rf (some a_11))]) dX1_same_23 rfl (by rw [e_14, ic_1]) (Nat.le_of_ble_eq_true rfl) rfl ?_
      refine v_goto (tgt := 2) dX1_same_26 (by decide) ?_
      refine v_sub [1, 2, 0] rfl ?_
      exact ih z_14 h_13 (k + 1) (n + 63) hw
theorem e_X1_same {post : (AH) → Prop}   {x0 : Option Nat} {x1 : Option Nat} {h : AH}  (hw : w_X1_same post  x0 x1 h) : VV l E X cX1_same RX1 "same" 3 r_X1_same none (vpv (fun (h' : AH) => post h')) h 0 0 0 [(0, va_rf x0), (1, va_rf x1)] [] := by
  refine v_iconst dX1_same_0 ic_0 ?_
  refine v_istore_n (lv1 := [(2, .int (nI 0)), (0, va_rf x0), (1, va_rf x1)]) dX1_same_1 rfl (Nat.le_of_ble_eq_true rfl) (by cases x1 <;> rfl) ?_
  obtain ⟨n_23, hw⟩ := hw
  refine v_sub [1, 2, 0] rfl ?_
  exact b_X1_same_2 n_23 (nI 0) h 0 0 hw
theorem met_X1_same {post : (AH) → Prop}   {x0 : Option Nat} {x1 : Option Nat} {h : AH}  (hw : w_X1_same post  x0 x1 h) : Mt l E yX1_same (ws_ yX1_same cX1_same 3 none) r_X1_same [va_rf x0, va_rf x1] h (vpv (fun (h' : AH) => post h')) := v_entry (by decide +kernel) (by cases x0 <;> cases x1 <;> exact (Nat.le_of_ble_eq_true rfl)) (by cases x0 <;> cases x1 <;> exact rfl) (fun _ => e_X1_same hw)
/-! X1_copy -/
abbrev r_X1_copy : Room := { frames := 10, cells := 1564, slots := 83500, locals := 272 }
theorem n_X1_copy : vdn yX1_copy 0 := ⟨by decide +kernel, by decide +kernel, by decide +kernel⟩
def w_X1_copy_132 (post : (Option Nat) → (AH) → Prop) (b0 : Nat) : Nat → (Option Nat) → (Int32) → (AH) → (Nat) → (Nat) → Prop
 | 0, _, _, _, _, _ => False
 | n0 + 1, x1, x2, h, k, n =>
 (∃ (fs_1 : List Value) (r_4 : Option Nat), h b0 = some (.inr (1, fs_1)) ∧ fs_1[7]? = some (va_rf r_4) ∧ (∃ a_5 : Nat, r_4 = some a_5 ∧ (∃ fs_147 : List Value, h a_5 = some (.inr (2, fs_147)) ∧ (w_J2_size (fun (z_6 : Int32) => ((z_6 ≤ x2 → (∃ (fs_11 : List Value) (r_14 : Option Nat), h b0 = some (.inr (1, fs_11)) ∧ fs_11[8]? = some (va_rf r_14) ∧ (∃ a_15 : Nat, x1 = some a_15 ∧ (∃ (fs_16 : List Value) (r_19 : Option Nat), h a_15 = some (.inr (1, fs_16)) ∧ fs_16[8]? = some (va_rf r_19) ∧ (k + 40 ≤ 1564 ∧ n + 2520 ≤ 83500 ∧ (w_X1_same (fun (h_20 : AH) => (∃ (fs_21 : List Value) (r_24 : Option Nat), h_20 b0 = some (.inr (1, fs_21)) ∧ fs_21[9]? = some (va_rf r_24) ∧ (∃ (fs_25 : List Value) (r_28 : Option Nat), h_20 a_15 = some (.inr (1, fs_25)) ∧ fs_25[9]? = some (va_rf r_28) ∧ ((k + 40) + 40 ≤ 1564 ∧ (n + 2520) + 2520 ≤ 83500 ∧ (w_X1_same (fun (h_29 : AH) => (∃ (fs_30 : List Value) (r_33 : Option Nat), h_29 b0 = some (.inr (1, fs_30)) ∧ fs_30[10]? = some (va_rf r_33) ∧ (∃ (fs_34 : List Value) (r_37 : Option Nat), h_29 a_15 = some (.inr (1, fs_34)) ∧ fs_34[10]? = some (va_rf r_37) ∧ (((k + 40) + 40) + 40 ≤ 1564 ∧ ((n + 2520) + 2520) + 2520 ≤ 83500 ∧ (w_X1_same (fun (h_38 : AH) => (∃ (fs_39 : List Value) (r_42 : Option Nat), h_38 b0 = some (.inr (1, fs_39)) ∧ fs_39[11]? = some (va_rf r_42) ∧ (∃ (fs_43 : List Value) (r_46 : Option Nat), h_38 a_15 = some (.inr (1, fs_43)) ∧ fs_43[11]? = some (va_rf r_46) ∧ (∃ a_47 : Nat, r_46 = some a_47 ∧ (∃ a_48 : Nat, r_42 = some a_48 ∧ (∃ (N_49 : Nat) (g_50 : Nat → Int32) (N_52 : Nat) (g_53 : Nat → Int32), h_38 a_48 = (some (.inl (0, N_49, .inl g_50))) ∧ h_38 a_47 = (some (.inl (0, N_52, .inl g_53))) ∧ (¬ (nI 0) < 0 ∧ ¬ (nI 0) < 0 ∧ ¬ (nI 256) < 0 ∧ ((nI 0)).toNatClampNeg + ((nI 256)).toNatClampNeg ≤ N_49 ∧ ((nI 0)).toNatClampNeg + ((nI 256)).toNatClampNeg ≤ N_52) ∧ ∀ h_56 : AH, h_56 = va_up h_38 a_47 (some (.inl (0, N_52, .inl (va_cpy g_50 g_53 ((nI 0)).toNatClampNeg ((nI 0)).toNatClampNeg ((nI 256)).toNatClampNeg)))) → (∃ (fs_57 : List Value) (r_60 : Option Nat), h_56 b0 = some (.inr (1, fs_57)) ∧ fs_57[12]? = some (va_rf r_60) ∧ (∃ (fs_61 : List Value) (r_64 : Option Nat), h_56 a_15 = some (.inr (1, fs_61)) ∧ fs_61[12]? = some (va_rf r_64) ∧ (∃ a_65 : Nat, r_64 = some a_65 ∧ (∃ a_66 : Nat, r_60 = some a_66 ∧ (∃ (N_67 : Nat) (g_68 : Nat → Int32) (N_70 : Nat) (g_71 : Nat → Int32), h_56 a_66 = (some (.inl (0, N_67, .inl g_68))) ∧ h_56 a_65 = (some (.inl (0, N_70, .inl g_71))) ∧ (¬ (nI 0) < 0 ∧ ¬ (nI 0) < 0 ∧ ¬ (nI 8) < 0 ∧ ((nI 0)).toNatClampNeg + ((nI 8)).toNatClampNeg ≤ N_67 ∧ ((nI 0)).toNatClampNeg + ((nI 8)).toNatClampNeg ≤ N_70) ∧ ∀ h_74 : AH, h_74 = va_up h_56 a_65 (some (.inl (0, N_70, .inl (va_cpy g_68 g_71 ((nI 0)).toNatClampNeg ((nI 0)).toNatClampNeg ((nI 8)).toNatClampNeg)))) → (∃ (fs_75 : List Value) (r_78 : Option Nat), h_74 b0 = some (.inr (1, fs_75)) ∧ fs_75[13]? = some (va_rf r_78) ∧ (∃ (fs_79 : List Value) (r_82 : Option Nat), h_74 a_15 = some (.inr (1, fs_79)) ∧ fs_79[13]? = some (va_rf r_82) ∧ (∃ a_83 : Nat, r_82 = some a_83 ∧ (∃ a_84 : Nat, r_78 = some a_84 ∧ (∃ (N_85 : Nat) (g_86 : Nat → Int32) (N_88 : Nat) (g_89 : Nat → Int32), h_74 a_84 = (some (.inl (0, N_85, .inl g_86))) ∧ h_74 a_83 = (some (.inl (0, N_88, .inl g_89))) ∧ (¬ (nI 0) < 0 ∧ ¬ (nI 0) < 0 ∧ ¬ (nI 128) < 0 ∧ ((nI 0)).toNatClampNeg + ((nI 128)).toNatClampNeg ≤ N_85 ∧ ((nI 0)).toNatClampNeg + ((nI 128)).toNatClampNeg ≤ N_88) ∧ ∀ h_92 : AH, h_92 = va_up h_74 a_83 (some (.inl (0, N_88, .inl (va_cpy g_86 g_89 ((nI 0)).toNatClampNeg ((nI 0)).toNatClampNeg ((nI 128)).toNatClampNeg)))) → (∃ (fs_93 : List Value) (z_96 : Int32), h_92 b0 = some (.inr (1, fs_93)) ∧ fs_93[14]? = some (.int z_96) ∧ (∃ fs_97 : List Value, h_92 a_15 = some (.inr (1, fs_97)) ∧ 14 < fs_97.length ∧ ∀ h_100 : AH, h_100 = va_up h_92 a_15 (some (.inr (1, fs_97.set 14 (.int z_96)))) → (∃ (fs_101 : List Value) (r_104 : Option Nat), h_100 b0 = some (.inr (1, fs_101)) ∧ fs_101[15]? = some (va_rf r_104) ∧ (∃ fs_105 : List Value, h_100 a_15 = some (.inr (1, fs_105)) ∧ 15 < fs_105.length ∧ ∀ h_108 : AH, h_108 = va_up h_100 a_15 (some (.inr (1, fs_105.set 15 (va_rf r_104)))) → (∃ (fs_109 : List Value) (r_112 : Option Nat), h_108 b0 = some (.inr (1, fs_109)) ∧ fs_109[16]? = some (va_rf r_112) ∧ (∃ fs_113 : List Value, h_108 a_15 = some (.inr (1, fs_113)) ∧ 16 < fs_113.length ∧ ∀ h_116 : AH, h_116 = va_up h_108 a_15 (some (.inr (1, fs_113.set 16 (va_rf r_112)))) → (post (some a_15) h_116))))))))))))))))))))))) r_33 r_37 h_29))))) r_24 r_28 h_20))))) r_14 r_19 h)))))) ∧ (¬ z_6 ≤ x2 → (∃ a_123 : Nat, x1 = some a_123 ∧ (∃ (fs_124 : List Value) (r_127 : Option Nat), h a_123 = some (.inr (1, fs_124)) ∧ fs_124[7]? = some (va_rf r_127) ∧ (∃ (fs_128 : List Value) (r_131 : Option Nat), h b0 = some (.inr (1, fs_128)) ∧ fs_128[7]? = some (va_rf r_131) ∧ (∃ a_132 : Nat, r_131 = some a_132 ∧ (∃ fs_145 : List Value, h a_132 = some (.inr (2, fs_145)) ∧ (w_J2_get (fun (r_133 : Option Nat) => (∃ a_134 : Nat, r_133 = some a_134 ∧ (∃ fs_135 : List Value, h a_134 = some (.inr (23, fs_135)) ∧ (∃ a_137 : Nat, r_127 = some a_137 ∧ (∃ fs_143 : List Value, h a_137 = some (.inr (2, fs_143)) ∧ (k + 1 ≤ 1564 ∧ n + 63 ≤ 83500 ∧ (w_J2_add (fun (z_138 : Int32) (h_139 : AH) => (∀ z_140 : Int32, z_140 = x2 + (nI 1) → (w_X1_copy_132 post b0 n0 (some a_123) z_140 h_139 (k + 1) (n + 63)))) a_137 (some a_134) h))))))) a_132 x2 h))))))))) a_5 h))))
def w_X1_copy_94 (post : (Option Nat) → (AH) → Prop) (b0 : Nat) : Nat → (Option Nat) → (Int32) → (AH) → (Nat) → (Nat) → Prop
 | 0, _, _, _, _, _ => False
 | n0 + 1, x1, x2, h, k, n =>
 (∃ (fs_149 : List Value) (r_152 : Option Nat), h b0 = some (.inr (1, fs_149)) ∧ fs_149[6]? = some (va_rf r_152) ∧ (∃ a_153 : Nat, r_152 = some a_153 ∧ (∃ fs_184 : List Value, h a_153 = some (.inr (2, fs_184)) ∧ (w_J2_size (fun (z_154 : Int32) => ((z_154 ≤ x2 → (∃ n1 : Nat, (w_X1_copy_132 post b0 n1 x1 (nI 0) h k n))) ∧ (¬ z_154 ≤ x2 → (∃ a_160 : Nat, x1 = some a_160 ∧ (∃ (fs_161 : List Value) (r_164 : Option Nat), h a_160 = some (.inr (1, fs_161)) ∧ fs_161[6]? = some (va_rf r_164) ∧ (∃ (fs_165 : List Value) (r_168 : Option Nat), h b0 = some (.inr (1, fs_165)) ∧ fs_165[6]? = some (va_rf r_168) ∧ (∃ a_169 : Nat, r_168 = some a_169 ∧ (∃ fs_182 : List Value, h a_169 = some (.inr (2, fs_182)) ∧ (w_J2_get (fun (r_170 : Option Nat) => (∃ a_171 : Nat, r_170 = some a_171 ∧ (∃ fs_172 : List Value, h a_171 = some (.inr (22, fs_172)) ∧ (∃ a_174 : Nat, r_164 = some a_174 ∧ (∃ fs_180 : List Value, h a_174 = some (.inr (2, fs_180)) ∧ (k + 1 ≤ 1564 ∧ n + 63 ≤ 83500 ∧ (w_J2_add (fun (z_175 : Int32) (h_176 : AH) => (∀ z_177 : Int32, z_177 = x2 + (nI 1) → (w_X1_copy_94 post b0 n0 (some a_160) z_177 h_176 (k + 1) (n + 63)))) a_174 (some a_171) h))))))) a_169 x2 h))))))))) a_153 h))))
def w_X1_copy_56 (post : (Option Nat) → (AH) → Prop) (b0 : Nat) : Nat → (Option Nat) → (Int32) → (AH) → (Nat) → (Nat) → Prop
 | 0, _, _, _, _, _ => False
 | n0 + 1, x1, x2, h, k, n =>
 (∃ (fs_186 : List Value) (r_189 : Option Nat), h b0 = some (.inr (1, fs_186)) ∧ fs_186[5]? = some (va_rf r_189) ∧ (∃ a_190 : Nat, r_189 = some a_190 ∧ (∃ fs_221 : List Value, h a_190 = some (.inr (2, fs_221)) ∧ (w_J2_size (fun (z_191 : Int32) => ((z_191 ≤ x2 → (∃ n1 : Nat, (w_X1_copy_94 post b0 n1 x1 (nI 0) h k n))) ∧ (¬ z_191 ≤ x2 → (∃ a_197 : Nat, x1 = some a_197 ∧ (∃ (fs_198 : List Value) (r_201 : Option Nat), h a_197 = some (.inr (1, fs_198)) ∧ fs_198[5]? = some (va_rf r_201) ∧ (∃ (fs_202 : List Value) (r_205 : Option Nat), h b0 = some (.inr (1, fs_202)) ∧ fs_202[5]? = some (va_rf r_205) ∧ (∃ a_206 : Nat, r_205 = some a_206 ∧ (∃ fs_219 : List Value, h a_206 = some (.inr (2, fs_219)) ∧ (w_J2_get (fun (r_207 : Option Nat) => (∃ a_208 : Nat, r_207 = some a_208 ∧ (∃ fs_209 : List Value, h a_208 = some (.inr (10, fs_209)) ∧ (∃ a_211 : Nat, r_201 = some a_211 ∧ (∃ fs_217 : List Value, h a_211 = some (.inr (2, fs_217)) ∧ (k + 1 ≤ 1564 ∧ n + 63 ≤ 83500 ∧ (w_J2_add (fun (z_212 : Int32) (h_213 : AH) => (∀ z_214 : Int32, z_214 = x2 + (nI 1) → (w_X1_copy_56 post b0 n0 (some a_197) z_214 h_213 (k + 1) (n + 63)))) a_211 (some a_208) h))))))) a_206 x2 h))))))))) a_190 h))))
def w_X1_copy (post : (Option Nat) → (AH) → Prop) (b0 : Nat) (h : AH) : Prop :=
 (0 + 1 ≤ 1564 ∧ 0 + 17 ≤ 83500 ∧ ∀ a_223 : Nat, h a_223 = none → ∀ h_225 : AH, h_225 = va_up h a_223 (some (.inr (1, dfX1))) → ((0 + 1) + 23 ≤ 1564 ∧ (0 + 17) + 700 ≤ 83500 ∧ (w_X1_init (fun (h_230 : AH) => (∃ (fs_231 : List Value) (z_234 : Int32), h_230 b0 = some (.inr (1, fs_231)) ∧ fs_231[0]? = some (.int z_234) ∧ (∃ fs_235 : List Value, h_230 a_223 = some (.inr (1, fs_235)) ∧ 0 < fs_235.length ∧ ∀ h_238 : AH, h_238 = va_up h_230 a_223 (some (.inr (1, fs_235.set 0 (.int z_234)))) → (∃ (fs_239 : List Value) (z_242 : Int32), h_238 b0 = some (.inr (1, fs_239)) ∧ fs_239[1]? = some (.int z_242) ∧ (∃ fs_243 : List Value, h_238 a_223 = some (.inr (1, fs_243)) ∧ 1 < fs_243.length ∧ ∀ h_246 : AH, h_246 = va_up h_238 a_223 (some (.inr (1, fs_243.set 1 (.int z_242)))) → (∃ (fs_247 : List Value) (z_250 : Int32), h_246 b0 = some (.inr (1, fs_247)) ∧ fs_247[2]? = some (.int z_250) ∧ (∃ fs_251 : List Value, h_246 a_223 = some (.inr (1, fs_251)) ∧ 2 < fs_251.length ∧ ∀ h_254 : AH, h_254 = va_up h_246 a_223 (some (.inr (1, fs_251.set 2 (.int z_250)))) → (∃ (fs_255 : List Value) (r_258 : Option Nat), h_254 b0 = some (.inr (1, fs_255)) ∧ fs_255[3]? = some (va_rf r_258) ∧ (∃ (fs_259 : List Value) (r_262 : Option Nat), h_254 a_223 = some (.inr (1, fs_259)) ∧ fs_259[3]? = some (va_rf r_262) ∧ (((0 + 1) + 23) + 640 ≤ 1564 ∧ ((0 + 17) + 700) + 33160 ≤ 83500 ∧ (w_X1_copies (fun (h_263 : AH) => (∃ (fs_264 : List Value) (r_267 : Option Nat), h_263 b0 = some (.inr (1, fs_264)) ∧ fs_264[4]? = some (va_rf r_267) ∧ (∃ (fs_268 : List Value) (r_271 : Option Nat), h_263 a_223 = some (.inr (1, fs_268)) ∧ fs_268[4]? = some (va_rf r_271) ∧ ((((0 + 1) + 23) + 640) + 640 ≤ 1564 ∧ (((0 + 17) + 700) + 33160) + 33160 ≤ 83500 ∧ (w_X1_copies (fun (h_272 : AH) => (∃ n1 : Nat, (w_X1_copy_56 post b0 n1 (some a_223) (nI 0) h_272 ((((0 + 1) + 23) + 640) + 640) ((((0 + 17) + 700) + 33160) + 33160)))) r_267 r_271 h_263))))) r_258 r_262 h_254))))))))))) a_223 h_225)))
theorem b_X1_copy_132 {post : (Option Nat) → (AH) → Prop}   {b0 : Nat}    : ∀ (n0 : Nat) (x1 : Option Nat) (x2 : Int32) (h : AH) (k : Nat) (n : Nat), w_X1_copy_132 post b0 n0 x1 x2 h k n → VV l E X cX1_copy RX1 "copy" 3 r_X1_copy (some (.object "NobodysBard$State")) (vpq (fun (r : Option Nat) (h' : AH) => post r h')) h k n 132 [(0, va_rf (some b0)), (1, va_rf x1), (2, .int x2)] [] := by
  intro n0
  induction n0 with
  | zero =>
    intro x1 x2 h k n hw
    exact hw.elim
  | succ n0 ih =>
    intro x1 x2 h k n hw
    refine v_iload_n (q := 2) dX1_copy_132 rfl rfl ?_
    refine v_aload_n (q := 0) dX1_copy_133 rfl rfl ?_
    obtain ⟨fs_1, r_4, e_2, e_3, hw⟩ := hw
    refine v_get in_X1 (ci := 1) rfl 7 (Nat.le_of_ble_eq_true rfl) q233 rfl dX1_copy_134 e_2 e_3 ?_
    obtain ⟨a_5, ea_5, hw⟩ := hw
    subst ea_5
    obtain ⟨fs_147, e_148, hw⟩ := hw
    refine v_callV0 q1573 q414 q415 q108 q416 (ci := 2) rfl e_148 n_J2_size ⟨Nat.le_of_ble_eq_true rfl, Nat.le_of_ble_eq_true rfl⟩ [] [.int x2] (met_J2_size hw) rfl (Nat.le_of_ble_eq_true rfl) rfl rfl dX1_copy_137 rfl (v_ki (fun z_6 h1 hv => ?_))
    clear hw
    obtain ⟨e9, hw⟩ := hv
    refine v_heap e9 ?_
    clear e9
    obtain ⟨hw_9, hw_10⟩ := hw
    refine v_icmp_ge (tgt := 168) dX1_copy_140 (by decide) (fun c_7 => ?_) (fun c_8 => ?_)
    · have hw := hw_9 c_7
      refine v_aload_n (q := 0) dX1_copy_168 rfl rfl ?_
      obtain ⟨fs_11, r_14, e_12, e_13, hw⟩ := hw
      refine v_get in_X1 (ci := 1) rfl 8 (Nat.le_of_ble_eq_true rfl) q235 rfl dX1_copy_169 e_12 e_13 ?_
      refine v_aload_n (q := 1) dX1_copy_172 rfl rfl ?_
      obtain ⟨a_15, ea_15, hw⟩ := hw
      subst ea_15
      obtain ⟨fs_16, r_19, e_17, e_18, hw⟩ := hw
      refine v_get in_X1 (ci := 1) rfl 8 (Nat.le_of_ble_eq_true rfl) q235 rfl dX1_copy_173 e_17 e_18 ?_
      obtain ⟨e_121, e_122, hw⟩ := hw
      refine v_callS q1590 q1591 q105 q1592 n_X1_same ⟨Nat.le_of_ble_eq_true rfl, Nat.le_of_ble_eq_true rfl⟩ [va_rf r_14, va_rf r_19] [] (met_X1_same hw) rfl (Nat.zero_le _) ⟨e_121, e_122⟩ dX1_copy_176 rfl (v_kv (fun h_20 hv => ?_))
      clear hw
      have hw := hv
      clear hv
      refine v_aload_n (q := 0) dX1_copy_179 rfl rfl ?_
      obtain ⟨fs_21, r_24, e_22, e_23, hw⟩ := hw
      refine v_get in_X1 (ci := 1) rfl 9 (Nat.le_of_ble_eq_true rfl) q237 rfl dX1_copy_180 e_22 e_23 ?_
      refine v_aload_n (q := 1) dX1_copy_183 rfl rfl ?_
      obtain ⟨fs_25, r_28, e_26, e_27, hw⟩ := hw
      refine v_get in_X1 (ci := 1) rfl 9 (Nat.le_of_ble_eq_true rfl) q237 rfl dX1_copy_184 e_26 e_27 ?_
      obtain ⟨e_119, e_120, hw⟩ := hw
      refine v_callS q1590 q1591 q105 q1592 n_X1_same ⟨Nat.le_of_ble_eq_true rfl, Nat.le_of_ble_eq_true rfl⟩ [va_rf r_24, va_rf r_28] [] (met_X1_same hw) rfl (Nat.zero_le _) ⟨e_119, e_120⟩ dX1_copy_187 rfl (v_kv (fun h_29 hv => ?_))
      clear hw
      have hw := hv
      clear hv
      refine v_aload_n (q := 0) dX1_copy_190 rfl rfl ?_
      obtain ⟨fs_30, r_33, e_31, e_32, hw⟩ := hw
      refine v_get in_X1 (ci := 1) rfl 10 (Nat.le_of_ble_eq_true rfl) q239 rfl dX1_copy_191 e_31 e_32 ?_
      refine v_aload_n (q := 1) dX1_copy_194 rfl rfl ?_
      obtain ⟨fs_34, r_37, e_35, e_36, hw⟩ := hw
      refine v_get in_X1 (ci := 1) rfl 10 (Nat.le_of_ble_eq_true rfl) q239 rfl dX1_copy_195 e_35 e_36 ?_
      obtain ⟨e_117, e_118, hw⟩ := hw
      refine v_callS q1590 q1591 q105 q1592 n_X1_same ⟨Nat.le_of_ble_eq_true rfl, Nat.le_of_ble_eq_true rfl⟩ [va_rf r_33, va_rf r_37] [] (met_X1_same hw) rfl (Nat.zero_le _) ⟨e_117, e_118⟩ dX1_copy_198 rfl (v_kv (fun h_38 hv => ?_))
      clear hw
      have hw := hv
      clear hv
      refine v_aload_n (q := 0) dX1_copy_201 rfl rfl ?_
      obtain ⟨fs_39, r_42, e_40, e_41, hw⟩ := hw
      refine v_get in_X1 (ci := 1) rfl 11 (Nat.le_of_ble_eq_true rfl) q241 rfl dX1_copy_202 e_40 e_41 ?_
      refine v_iconst dX1_copy_205 ic_0 ?_
      refine v_aload_n (q := 1) dX1_copy_206 rfl rfl ?_
      obtain ⟨fs_43, r_46, e_44, e_45, hw⟩ := hw
      refine v_get in_X1 (ci := 1) rfl 11 (Nat.le_of_ble_eq_true rfl) q241 rfl dX1_copy_207 e_44 e_45 ?_
      refine v_iconst dX1_copy_210 ic_0 ?_
      refine v_sipush dX1_copy_211 sp_256 ?_
      obtain ⟨a_47, ea_47, hw⟩ := hw
      subst ea_47
      obtain ⟨a_48, ea_48, hw⟩ := hw
      subst ea_48
      obtain ⟨N_49, g_50, N_52, g_53, e_51, e_54, e_55, hw⟩ := hw
      obtain ⟨h_56, eh_56⟩ : ∃ z9 : AH, z9 = va_up h_38 a_47 (some (.inl (0, N_52, .inl (va_cpy g_50 g_53 ((nI 0)).toNatClampNeg ((nI 0)).toNatClampNeg ((nI 256)).toNatClampNeg)))) := ⟨_, rfl⟩
      replace hw := hw h_56 eh_56
      refine v_copyI q1594 q518 q517 q118 (Nat.zero_le _) (Nat.le_of_ble_eq_true rfl) (Nat.le_of_ble_eq_true rfl) dX1_copy_214 e_51 e_54 e_55 ?_
      rw [← eh_56]
      refine v_aload_n (q := 0) dX1_copy_217 rfl rfl ?_
      obtain ⟨fs_57, r_60, e_58, e_59, hw⟩ := hw
      refine v_get in_X1 (ci := 1) rfl 12 (Nat.le_of_ble_eq_true rfl) q243 rfl dX1_copy_218 e_58 e_59 ?_
      refine v_iconst dX1_copy_221 ic_0 ?_
      refine v_aload_n (q := 1) dX1_copy_222 rfl rfl ?_
      obtain ⟨fs_61, r_64, e_62, e_63, hw⟩ := hw
      refine v_get in_X1 (ci := 1) rfl 12 (Nat.le_of_ble_eq_true rfl) q243 rfl dX1_copy_223 e_62 e_63 ?_
      refine v_iconst dX1_copy_226 ic_0 ?_
      refine v_bipush dX1_copy_227 bp_8 ?_
      obtain ⟨a_65, ea_65, hw⟩ := hw
      subst ea_65
      obtain ⟨a_66, ea_66, hw⟩ := hw
      subst ea_66
      obtain ⟨N_67, g_68, N_70, g_71, e_69, e_72, e_73, hw⟩ := hw
      obtain ⟨h_74, eh_74⟩ : ∃ z9 : AH, z9 = va_up h_56 a_65 (some (.inl (0, N_70, .inl (va_cpy g_68 g_71 ((nI 0)).toNatClampNeg ((nI 0)).toNatClampNeg ((nI 8)).toNatClampNeg)))) := ⟨_, rfl⟩
      replace hw := hw h_74 eh_74
      refine v_copyI q1594 q518 q517 q118 (Nat.zero_le _) (Nat.le_of_ble_eq_true rfl) (Nat.le_of_ble_eq_true rfl) dX1_copy_229 e_69 e_72 e_73 ?_
      rw [← eh_74]
      refine v_aload_n (q := 0) dX1_copy_232 rfl rfl ?_
      obtain ⟨fs_75, r_78, e_76, e_77, hw⟩ := hw
      refine v_get in_X1 (ci := 1) rfl 13 (Nat.le_of_ble_eq_true rfl) q245 rfl dX1_copy_233 e_76 e_77 ?_
      refine v_iconst dX1_copy_236 ic_0 ?_
      refine v_aload_n (q := 1) dX1_copy_237 rfl rfl ?_
      obtain ⟨fs_79, r_82, e_80, e_81, hw⟩ := hw
      refine v_get in_X1 (ci := 1) rfl 13 (Nat.le_of_ble_eq_true rfl) q245 rfl dX1_copy_238 e_80 e_81 ?_
      refine v_iconst dX1_copy_241 ic_0 ?_
      refine v_sipush dX1_copy_242 sp_128 ?_
      obtain ⟨a_83, ea_83, hw⟩ := hw
      subst ea_83
      obtain ⟨a_84, ea_84, hw⟩ := hw
      subst ea_84
      obtain ⟨N_85, g_86, N_88, g_89, e_87, e_90, e_91, hw⟩ := hw
      obtain ⟨h_92, eh_92⟩ : ∃ z9 : AH, z9 = va_up h_74 a_83 (some (.inl (0, N_88, .inl (va_cpy g_86 g_89 ((nI 0)).toNatClampNeg ((nI 0)).toNatClampNeg ((nI 128)).toNatClampNeg)))) := ⟨_, rfl⟩
      replace hw := hw h_92 eh_92
      refine v_copyI q1594 q518 q517 q118 (Nat.zero_le _) (Nat.le_of_ble_eq_true rfl) (Nat.le_of_ble_eq_true rfl) dX1_copy_245 e_87 e_90 e_91 ?_
      rw [← eh_92]
      refine v_aload_n (q := 1) dX1_copy_248 rfl rfl ?_
      refine v_aload_n (q := 0) dX1_copy_249 rfl rfl ?_
      obtain ⟨fs_93, z_96, e_94, e_95, hw⟩ := hw
      refine v_get in_X1 (ci := 1) rfl 14 (Nat.le_of_ble_eq_true rfl) q247 rfl dX1_copy_250 e_94 e_95 ?_
      obtain ⟨fs_97, e_98, e_99, hw⟩ := hw
      obtain ⟨h_100, eh_100⟩ : ∃ z9 : AH, z9 = va_up h_92 a_15 (some (.inr (1, fs_97.set 14 (.int z_96)))) := ⟨_, rfl⟩
      replace hw := hw h_100 eh_100
      refine v_put in_X1 (ci := 1) rfl 14 (Nat.le_of_ble_eq_true rfl) tyX1 tyX1_ok nmX1 q247 rfl rfl rfl rfl rfl dX1_copy_253 e_98 e_99 ?_
      rw [← eh_100]
      refine v_aload_n (q := 1) dX1_copy_256 rfl rfl ?_
      refine v_aload_n (q := 0) dX1_copy_257 rfl rfl ?_
      obtain ⟨fs_101, r_104, e_102, e_103, hw⟩ := hw
      refine v_get in_X1 (ci := 1) rfl 15 (Nat.le_of_ble_eq_true rfl) q249 rfl dX1_copy_258 e_102 e_103 ?_
      obtain ⟨fs_105, e_106, e_107, hw⟩ := hw
      obtain ⟨h_108, eh_108⟩ : ∃ z9 : AH, z9 = va_up h_100 a_15 (some (.inr (1, fs_105.set 15 (va_rf r_104)))) := ⟨_, rfl⟩
      replace hw := hw h_108 eh_108
      refine v_put in_X1 (ci := 1) rfl 15 (Nat.le_of_ble_eq_true rfl) tyX1 tyX1_ok nmX1 q249 rfl rfl rfl (v_rfn _ _).1 (v_rfn _ _).2 dX1_copy_261 e_106 e_107 ?_
      rw [← eh_108]
      refine v_aload_n (q := 1) dX1_copy_264 rfl rfl ?_
      refine v_aload_n (q := 0) dX1_copy_265 rfl rfl ?_
      obtain ⟨fs_109, r_112, e_110, e_111, hw⟩ := hw
      refine v_get in_X1 (ci := 1) rfl 16 (Nat.le_of_ble_eq_true rfl) q251 rfl dX1_copy_266 e_110 e_111 ?_
      obtain ⟨fs_113, e_114, e_115, hw⟩ := hw
      obtain ⟨h_116, eh_116⟩ : ∃ z9 : AH, z9 = va_up h_108 a_15 (some (.inr (1, fs_113.set 16 (va_rf r_112)))) := ⟨_, rfl⟩
      replace hw := hw h_116 eh_116
      refine v_put in_X1 (ci := 1) rfl 16 (Nat.le_of_ble_eq_true rfl) tyX1 tyX1_ok nmX1 q251 rfl rfl rfl (v_rfn _ _).1 (v_rfn _ _).2 dX1_copy_269 e_114 e_115 ?_
      rw [← eh_116]
      refine v_aload_n (q := 1) dX1_copy_272 rfl rfl ?_
      exact v_aret dX1_copy_273 rfl (Or.inl ⟨_, rfl⟩) ⟨_, rfl, hw⟩
    · have hw := hw_10 c_8
      refine v_aload_n (q := 1) dX1_copy_143 rfl rfl ?_
      obtain ⟨a_123, ea_123, hw⟩ := hw
      subst ea_123
      obtain ⟨fs_124, r_127, e_125, e_126, hw⟩ := hw
      refine v_get in_X1 (ci := 1) rfl 7 (Nat.le_of_ble_eq_true rfl) q233 rfl dX1_copy_144 e_125 e_126 ?_
      refine v_aload_n (q := 0) dX1_copy_147 rfl rfl ?_
      obtain ⟨fs_128, r_131, e_129, e_130, hw⟩ := hw
      refine v_get in_X1 (ci := 1) rfl 7 (Nat.le_of_ble_eq_true rfl) q233 rfl dX1_copy_148 e_129 e_130 ?_
      refine v_iload_n (q := 2) dX1_copy_151 rfl rfl ?_
      obtain ⟨a_132, ea_132, hw⟩ := hw
      subst ea_132
      obtain ⟨fs_145, e_146, hw⟩ := hw
      refine v_callV0 q1574 q578 q579 q108 q580 (ci := 2) rfl e_146 n_J2_get ⟨Nat.le_of_ble_eq_true rfl, Nat.le_of_ble_eq_true rfl⟩ [.int x2] [va_rf r_127] (met_J2_get hw) rfl (by simp only [List.map_cons, List.map_nil, List.sum_cons, List.sum_nil, v_rf1, v_cI, v_cJ]; decide) rfl rfl dX1_copy_152 rfl (v_kq (fun r_133 h1 hv => ?_))
      clear hw
      obtain ⟨e9, hw⟩ := hv
      refine v_heap e9 ?_
      clear e9
      obtain ⟨a_134, ea_134, hw⟩ := hw
      subst ea_134
      obtain ⟨fs_135, e_136, hw⟩ := hw
      refine v_cast (ci := 23) rfl q1589 dX1_copy_155 e_136 ?_
      obtain ⟨a_137, ea_137, hw⟩ := hw
      subst ea_137
      obtain ⟨fs_143, e_144, hw⟩ := hw
      obtain ⟨e_141, e_142, hw⟩ := hw
      refine v_callV q1586 q446 q447 q108 q448 (ci := 2) rfl e_144 n_J2_add ⟨Nat.le_of_ble_eq_true rfl, Nat.le_of_ble_eq_true rfl⟩ [va_rf (some a_134)] [] (met_J2_add hw) rfl (Nat.zero_le _) ⟨e_141, e_142⟩ dX1_copy_158 rfl (v_ki (fun z_138 h_139 hv => ?_))
      clear hw
      have hw := hv
      clear hv
      refine v_pop dX1_copy_161 rfl ?_
      obtain ⟨z_140, e_140⟩ : ∃ z9 : Int32, z9 = x2 + (nI 1) := ⟨_, rfl⟩
      replace hw := hw z_140 e_140
      refine v_iinc (q := 2) (v := z_140) (lv1 := [(2, .int z_140), (0, va_rf (some b0)), (1, va_rf (some a_123))]) dX1_copy_162 rfl (by rw [e_140, ic_1]) (Nat.le_of_ble_eq_true rfl) rfl ?_
      refine v_goto (tgt := 132) dX1_copy_165 (by decide) ?_
      refine v_sub [1, 2, 0] rfl ?_
      exact ih (some a_123) z_140 h_139 (k + 1) (n + 63) hw
theorem b_X1_copy_94 {post : (Option Nat) → (AH) → Prop}   {b0 : Nat}    : ∀ (n0 : Nat) (x1 : Option Nat) (x2 : Int32) (h : AH) (k : Nat) (n : Nat), w_X1_copy_94 post b0 n0 x1 x2 h k n → VV l E X cX1_copy RX1 "copy" 3 r_X1_copy (some (.object "NobodysBard$State")) (vpq (fun (r : Option Nat) (h' : AH) => post r h')) h k n 94 [(0, va_rf (some b0)), (1, va_rf x1), (2, .int x2)] [] := by
  intro n0
  induction n0 with
  | zero =>
    intro x1 x2 h k n hw
    exact hw.elim
  | succ n0 ih =>
    intro x1 x2 h k n hw
    refine v_iload_n (q := 2) dX1_copy_94 rfl rfl ?_
    refine v_aload_n (q := 0) dX1_copy_95 rfl rfl ?_
    obtain ⟨fs_149, r_152, e_150, e_151, hw⟩ := hw
    refine v_get in_X1 (ci := 1) rfl 6 (Nat.le_of_ble_eq_true rfl) q231 rfl dX1_copy_96 e_150 e_151 ?_
    obtain ⟨a_153, ea_153, hw⟩ := hw
    subst ea_153
    obtain ⟨fs_184, e_185, hw⟩ := hw
    refine v_callV0 q1573 q414 q415 q108 q416 (ci := 2) rfl e_185 n_J2_size ⟨Nat.le_of_ble_eq_true rfl, Nat.le_of_ble_eq_true rfl⟩ [] [.int x2] (met_J2_size hw) rfl (Nat.le_of_ble_eq_true rfl) rfl rfl dX1_copy_99 rfl (v_ki (fun z_154 h1 hv => ?_))
    clear hw
    obtain ⟨e9, hw⟩ := hv
    refine v_heap e9 ?_
    clear e9
    obtain ⟨hw_157, hw_158⟩ := hw
    refine v_icmp_ge (tgt := 130) dX1_copy_102 (by decide) (fun c_155 => ?_) (fun c_156 => ?_)
    · have hw := hw_157 c_155
      refine v_iconst dX1_copy_130 ic_0 ?_
      refine v_istore_n (lv1 := [(2, .int (nI 0)), (0, va_rf (some b0)), (1, va_rf x1)]) dX1_copy_131 rfl (Nat.le_of_ble_eq_true rfl) (by cases x1 <;> rfl) ?_
      obtain ⟨n_159, hw⟩ := hw
      refine v_sub [1, 2, 0] rfl ?_
      exact b_X1_copy_132 n_159 x1 (nI 0) h k n hw
    · have hw := hw_158 c_156
      refine v_aload_n (q := 1) dX1_copy_105 rfl rfl ?_
      obtain ⟨a_160, ea_160, hw⟩ := hw
      subst ea_160
      obtain ⟨fs_161, r_164, e_162, e_163, hw⟩ := hw
      refine v_get in_X1 (ci := 1) rfl 6 (Nat.le_of_ble_eq_true rfl) q231 rfl dX1_copy_106 e_162 e_163 ?_
      refine v_aload_n (q := 0) dX1_copy_109 rfl rfl ?_
      obtain ⟨fs_165, r_168, e_166, e_167, hw⟩ := hw
      refine v_get in_X1 (ci := 1) rfl 6 (Nat.le_of_ble_eq_true rfl) q231 rfl dX1_copy_110 e_166 e_167 ?_
      refine v_iload_n (q := 2) dX1_copy_113 rfl rfl ?_
      obtain ⟨a_169, ea_169, hw⟩ := hw
      subst ea_169
      obtain ⟨fs_182, e_183, hw⟩ := hw
      refine v_callV0 q1574 q578 q579 q108 q580 (ci := 2) rfl e_183 n_J2_get ⟨Nat.le_of_ble_eq_true rfl, Nat.le_of_ble_eq_true rfl⟩ [.int x2] [va_rf r_164] (met_J2_get hw) rfl (by simp only [List.map_cons, List.map_nil, List.sum_cons, List.sum_nil, v_rf1, v_cI, v_cJ]; decide) rfl rfl dX1_copy_114 rfl (v_kq (fun r_170 h1 hv => ?_))
      clear hw
      obtain ⟨e9, hw⟩ := hv
      refine v_heap e9 ?_
      clear e9
      obtain ⟨a_171, ea_171, hw⟩ := hw
      subst ea_171
      obtain ⟨fs_172, e_173, hw⟩ := hw
      refine v_cast (ci := 22) rfl q1588 dX1_copy_117 e_173 ?_
      obtain ⟨a_174, ea_174, hw⟩ := hw
      subst ea_174
      obtain ⟨fs_180, e_181, hw⟩ := hw
      obtain ⟨e_178, e_179, hw⟩ := hw
      refine v_callV q1586 q446 q447 q108 q448 (ci := 2) rfl e_181 n_J2_add ⟨Nat.le_of_ble_eq_true rfl, Nat.le_of_ble_eq_true rfl⟩ [va_rf (some a_171)] [] (met_J2_add hw) rfl (Nat.zero_le _) ⟨e_178, e_179⟩ dX1_copy_120 rfl (v_ki (fun z_175 h_176 hv => ?_))
      clear hw
      have hw := hv
      clear hv
      refine v_pop dX1_copy_123 rfl ?_
      obtain ⟨z_177, e_177⟩ : ∃ z9 : Int32, z9 = x2 + (nI 1) := ⟨_, rfl⟩
      replace hw := hw z_177 e_177
      refine v_iinc (q := 2) (v := z_177) (lv1 := [(2, .int z_177), (0, va_rf (some b0)), (1, va_rf (some a_160))]) dX1_copy_124 rfl (by rw [e_177, ic_1]) (Nat.le_of_ble_eq_true rfl) rfl ?_
      refine v_goto (tgt := 94) dX1_copy_127 (by decide) ?_
      refine v_sub [1, 2, 0] rfl ?_
      exact ih (some a_160) z_177 h_176 (k + 1) (n + 63) hw
theorem b_X1_copy_56 {post : (Option Nat) → (AH) → Prop}   {b0 : Nat}    : ∀ (n0 : Nat) (x1 : Option Nat) (x2 : Int32) (h : AH) (k : Nat) (n : Nat), w_X1_copy_56 post b0 n0 x1 x2 h k n → VV l E X cX1_copy RX1 "copy" 3 r_X1_copy (some (.object "NobodysBard$State")) (vpq (fun (r : Option Nat) (h' : AH) => post r h')) h k n 56 [(0, va_rf (some b0)), (1, va_rf x1), (2, .int x2)] [] := by
  intro n0
  induction n0 with
  | zero =>
    intro x1 x2 h k n hw
    exact hw.elim
  | succ n0 ih =>
    intro x1 x2 h k n hw
    refine v_iload_n (q := 2) dX1_copy_56 rfl rfl ?_
    refine v_aload_n (q := 0) dX1_copy_57 rfl rfl ?_
    obtain ⟨fs_186, r_189, e_187, e_188, hw⟩ := hw
    refine v_get in_X1 (ci := 1) rfl 5 (Nat.le_of_ble_eq_true rfl) q229 rfl dX1_copy_58 e_187 e_188 ?_
    obtain ⟨a_190, ea_190, hw⟩ := hw
    subst ea_190
    obtain ⟨fs_221, e_222, hw⟩ := hw
    refine v_callV0 q1573 q414 q415 q108 q416 (ci := 2) rfl e_222 n_J2_size ⟨Nat.le_of_ble_eq_true rfl, Nat.le_of_ble_eq_true rfl⟩ [] [.int x2] (met_J2_size hw) rfl (Nat.le_of_ble_eq_true rfl) rfl rfl dX1_copy_61 rfl (v_ki (fun z_191 h1 hv => ?_))
    clear hw
    obtain ⟨e9, hw⟩ := hv
    refine v_heap e9 ?_
    clear e9
    obtain ⟨hw_194, hw_195⟩ := hw
    refine v_icmp_ge (tgt := 92) dX1_copy_64 (by decide) (fun c_192 => ?_) (fun c_193 => ?_)
    · have hw := hw_194 c_192
      refine v_iconst dX1_copy_92 ic_0 ?_
      refine v_istore_n (lv1 := [(2, .int (nI 0)), (0, va_rf (some b0)), (1, va_rf x1)]) dX1_copy_93 rfl (Nat.le_of_ble_eq_true rfl) (by cases x1 <;> rfl) ?_
      obtain ⟨n_196, hw⟩ := hw
      refine v_sub [1, 2, 0] rfl ?_
      exact b_X1_copy_94 n_196 x1 (nI 0) h k n hw
    · have hw := hw_195 c_193
      refine v_aload_n (q := 1) dX1_copy_67 rfl rfl ?_
      obtain ⟨a_197, ea_197, hw⟩ := hw
      subst ea_197
      obtain ⟨fs_198, r_201, e_199, e_200, hw⟩ := hw
      refine v_get in_X1 (ci := 1) rfl 5 (Nat.le_of_ble_eq_true rfl) q229 rfl dX1_copy_68 e_199 e_200 ?_
      refine v_aload_n (q := 0) dX1_copy_71 rfl rfl ?_
      obtain ⟨fs_202, r_205, e_203, e_204, hw⟩ := hw
      refine v_get in_X1 (ci := 1) rfl 5 (Nat.le_of_ble_eq_true rfl) q229 rfl dX1_copy_72 e_203 e_204 ?_
      refine v_iload_n (q := 2) dX1_copy_75 rfl rfl ?_
      obtain ⟨a_206, ea_206, hw⟩ := hw
      subst ea_206
      obtain ⟨fs_219, e_220, hw⟩ := hw
      refine v_callV0 q1574 q578 q579 q108 q580 (ci := 2) rfl e_220 n_J2_get ⟨Nat.le_of_ble_eq_true rfl, Nat.le_of_ble_eq_true rfl⟩ [.int x2] [va_rf r_201] (met_J2_get hw) rfl (by simp only [List.map_cons, List.map_nil, List.sum_cons, List.sum_nil, v_rf1, v_cI, v_cJ]; decide) rfl rfl dX1_copy_76 rfl (v_kq (fun r_207 h1 hv => ?_))
      clear hw
      obtain ⟨e9, hw⟩ := hv
      refine v_heap e9 ?_
      clear e9
      obtain ⟨a_208, ea_208, hw⟩ := hw
      subst ea_208
      obtain ⟨fs_209, e_210, hw⟩ := hw
      refine v_cast (ci := 10) rfl q1587 dX1_copy_79 e_210 ?_
      obtain ⟨a_211, ea_211, hw⟩ := hw
      subst ea_211
      obtain ⟨fs_217, e_218, hw⟩ := hw
      obtain ⟨e_215, e_216, hw⟩ := hw
      refine v_callV q1586 q446 q447 q108 q448 (ci := 2) rfl e_218 n_J2_add ⟨Nat.le_of_ble_eq_true rfl, Nat.le_of_ble_eq_true rfl⟩ [va_rf (some a_208)] [] (met_J2_add hw) rfl (Nat.zero_le _) ⟨e_215, e_216⟩ dX1_copy_82 rfl (v_ki (fun z_212 h_213 hv => ?_))
      clear hw
      have hw := hv
      clear hv
      refine v_pop dX1_copy_85 rfl ?_
      obtain ⟨z_214, e_214⟩ : ∃ z9 : Int32, z9 = x2 + (nI 1) := ⟨_, rfl⟩
      replace hw := hw z_214 e_214
      refine v_iinc (q := 2) (v := z_214) (lv1 := [(2, .int z_214), (0, va_rf (some b0)), (1, va_rf (some a_197))]) dX1_copy_86 rfl (by rw [e_214, ic_1]) (Nat.le_of_ble_eq_true rfl) rfl ?_
      refine v_goto (tgt := 56) dX1_copy_89 (by decide) ?_
      refine v_sub [1, 2, 0] rfl ?_
      exact ih (some a_197) z_214 h_213 (k + 1) (n + 63) hw
theorem e_X1_copy {post : (Option Nat) → (AH) → Prop}   {b0 : Nat} {h : AH}  (hw : w_X1_copy post  b0 h) : VV l E X cX1_copy RX1 "copy" 3 r_X1_copy (some (.object "NobodysBard$State")) (vpq (fun (r : Option Nat) (h' : AH) => post r h')) h 0 0 0 [(0, va_rf (some b0))] [] := by
  obtain ⟨e_226, e_227, hw⟩ := hw
  refine v_new in_X1 (ci := 1) rfl tyX1 tyX1_ok q1568 q157 q105 dfX1_ok e_226 e_227 dX1_copy_0 (fun a_223 e_224 => ?_)
  obtain ⟨h_225, eh_225⟩ : ∃ z9 : AH, z9 = va_up h a_223 (some (.inr (1, dfX1))) := ⟨_, rfl⟩
  replace hw := hw a_223 e_224 h_225 eh_225
  rw [← eh_225]
  refine v_dup dX1_copy_3 (v_rf1 _) ?_
  obtain ⟨e_278, e_279, hw⟩ := hw
  refine v_callI q1569 q159 q105 q160 rfl n_X1_init ⟨Nat.le_of_ble_eq_true rfl, Nat.le_of_ble_eq_true rfl⟩ [] [va_rf (some a_223)] (met_X1_init hw) rfl (by simp only [List.map_cons, List.map_nil, List.sum_cons, List.sum_nil, v_rf1, v_cI, v_cJ]; decide) ⟨e_278, e_279⟩ dX1_copy_4 rfl (v_kv (fun h_230 hv => ?_))
  clear hw
  have hw := hv
  clear hv
  refine v_astore_n (lv1 := [(1, va_rf (some a_223)), (0, va_rf (some b0))]) dX1_copy_7 rfl (Nat.le_of_ble_eq_true rfl) rfl ?_
  refine v_aload_n (q := 0) dX1_copy_8 rfl rfl ?_
  refine v_aload_n (q := 1) dX1_copy_9 rfl rfl ?_
  obtain ⟨fs_231, z_234, e_232, e_233, hw⟩ := hw
  refine v_get in_X1 (ci := 1) rfl 0 (Nat.le_of_ble_eq_true rfl) q219 rfl dX1_copy_10 e_232 e_233 ?_
  obtain ⟨fs_235, e_236, e_237, hw⟩ := hw
  obtain ⟨h_238, eh_238⟩ : ∃ z9 : AH, z9 = va_up h_230 a_223 (some (.inr (1, fs_235.set 0 (.int z_234)))) := ⟨_, rfl⟩
  replace hw := hw h_238 eh_238
  refine v_put in_X1 (ci := 1) rfl 0 (Nat.le_of_ble_eq_true rfl) tyX1 tyX1_ok nmX1 q219 rfl rfl rfl rfl rfl dX1_copy_13 e_236 e_237 ?_
  rw [← eh_238]
  refine v_aload_n (q := 0) dX1_copy_16 rfl rfl ?_
  refine v_aload_n (q := 1) dX1_copy_17 rfl rfl ?_
  obtain ⟨fs_239, z_242, e_240, e_241, hw⟩ := hw
  refine v_get in_X1 (ci := 1) rfl 1 (Nat.le_of_ble_eq_true rfl) q221 rfl dX1_copy_18 e_240 e_241 ?_
  obtain ⟨fs_243, e_244, e_245, hw⟩ := hw
  obtain ⟨h_246, eh_246⟩ : ∃ z9 : AH, z9 = va_up h_238 a_223 (some (.inr (1, fs_243.set 1 (.int z_242)))) := ⟨_, rfl⟩
  replace hw := hw h_246 eh_246
  refine v_put in_X1 (ci := 1) rfl 1 (Nat.le_of_ble_eq_true rfl) tyX1 tyX1_ok nmX1 q221 rfl rfl rfl rfl rfl dX1_copy_21 e_244 e_245 ?_
  rw [← eh_246]
  refine v_aload_n (q := 0) dX1_copy_24 rfl rfl ?_
  refine v_aload_n (q := 1) dX1_copy_25 rfl rfl ?_
  obtain ⟨fs_247, z_250, e_248, e_249, hw⟩ := hw
  refine v_get in_X1 (ci := 1) rfl 2 (Nat.le_of_ble_eq_true rfl) q223 rfl dX1_copy_26 e_248 e_249 ?_
  obtain ⟨fs_251, e_252, e_253, hw⟩ := hw
  obtain ⟨h_254, eh_254⟩ : ∃ z9 : AH, z9 = va_up h_246 a_223 (some (.inr (1, fs_251.set 2 (.int z_250)))) := ⟨_, rfl⟩
  replace hw := hw h_254 eh_254
  refine v_put in_X1 (ci := 1) rfl 2 (Nat.le_of_ble_eq_true rfl) tyX1 tyX1_ok nmX1 q223 rfl rfl rfl rfl rfl dX1_copy_29 e_252 e_253 ?_
  rw [← eh_254]
  refine v_aload_n (q := 1) dX1_copy_32 rfl rfl ?_
  obtain ⟨fs_255, r_258, e_256, e_257, hw⟩ := hw
  refine v_get in_X1 (ci := 1) rfl 3 (Nat.le_of_ble_eq_true rfl) q225 rfl dX1_copy_33 e_256 e_257 ?_
  refine v_aload_n (q := 0) dX1_copy_36 rfl rfl ?_
  obtain ⟨fs_259, r_262, e_260, e_261, hw⟩ := hw
  refine v_get in_X1 (ci := 1) rfl 3 (Nat.le_of_ble_eq_true rfl) q225 rfl dX1_copy_37 e_260 e_261 ?_
  obtain ⟨e_276, e_277, hw⟩ := hw
  refine v_callS q1570 q1571 q105 q1572 n_X1_copies ⟨Nat.le_of_ble_eq_true rfl, Nat.le_of_ble_eq_true rfl⟩ [va_rf r_258, va_rf r_262] [] (met_X1_copies hw) rfl (Nat.zero_le _) ⟨e_276, e_277⟩ dX1_copy_40 rfl (v_kv (fun h_263 hv => ?_))
  clear hw
  have hw := hv
  clear hv
  refine v_aload_n (q := 1) dX1_copy_43 rfl rfl ?_
  obtain ⟨fs_264, r_267, e_265, e_266, hw⟩ := hw
  refine v_get in_X1 (ci := 1) rfl 4 (Nat.le_of_ble_eq_true rfl) q227 rfl dX1_copy_44 e_265 e_266 ?_
  refine v_aload_n (q := 0) dX1_copy_47 rfl rfl ?_
  obtain ⟨fs_268, r_271, e_269, e_270, hw⟩ := hw
  refine v_get in_X1 (ci := 1) rfl 4 (Nat.le_of_ble_eq_true rfl) q227 rfl dX1_copy_48 e_269 e_270 ?_
  obtain ⟨e_274, e_275, hw⟩ := hw
  refine v_callS q1570 q1571 q105 q1572 n_X1_copies ⟨Nat.le_of_ble_eq_true rfl, Nat.le_of_ble_eq_true rfl⟩ [va_rf r_267, va_rf r_271] [] (met_X1_copies hw) rfl (Nat.zero_le _) ⟨e_274, e_275⟩ dX1_copy_51 rfl (v_kv (fun h_272 hv => ?_))
  clear hw
  have hw := hv
  clear hv
  refine v_iconst dX1_copy_54 ic_0 ?_
  refine v_istore_n (lv1 := [(2, .int (nI 0)), (1, va_rf (some a_223)), (0, va_rf (some b0))]) dX1_copy_55 rfl (Nat.le_of_ble_eq_true rfl) rfl ?_
  obtain ⟨n_273, hw⟩ := hw
  refine v_sub [2, 1, 0] rfl ?_
  exact b_X1_copy_56 n_273 (some a_223) (nI 0) h_272 ((((0 + 1) + 23) + 640) + 640) ((((0 + 17) + 700) + 33160) + 33160) hw
theorem met_X1_copy {post : (Option Nat) → (AH) → Prop}   {b0 : Nat} {h : AH}  (hw : w_X1_copy post  b0 h) : Mt l E yX1_copy (ws_ yX1_copy cX1_copy 3 (some (.object "NobodysBard$State"))) r_X1_copy [va_rf (some b0)] h (vpq (fun (r : Option Nat) (h' : AH) => post r h')) := v_entry (by decide +kernel) (Nat.le_of_ble_eq_true rfl) rfl (fun _ => e_X1_copy hw)
/-! X0_image -/
abbrev r_X0_image : Room := { frames := 11, cells := 1564, slots := 83500, locals := 294 }
theorem n_X0_image : vdn yX0_image 1 := ⟨by decide +kernel, by decide +kernel, by decide +kernel⟩
def w_X0_image (post : (Int32) → (AH) → Prop) (b0 : Nat) (x1 : Int32) (h : AH) : Prop :=
 (w_X0_in (fun (z_1 : Int32) => ((¬ z_1 = 0 → (∃ (fs_6 : List Value) (r_9 : Option Nat), h b0 = some (.inr (0, fs_6)) ∧ fs_6[2]? = some (va_rf r_9) ∧ (∃ (fs_10 : List Value) (r_13 : Option Nat), h b0 = some (.inr (0, fs_10)) ∧ fs_10[1]? = some (va_rf r_13) ∧ (∃ a_14 : Nat, r_13 = some a_14 ∧ (∃ fs_30 : List Value, h a_14 = some (.inr (1, fs_30)) ∧ (0 + 1564 ≤ 1564 ∧ 0 + 83500 ≤ 83500 ∧ (w_X1_copy (fun (r_15 : Option Nat) (h_16 : AH) => (∃ a_17 : Nat, r_9 = some a_17 ∧ (∃ a_23 : Nat, r_15 = some a_23 ∧ (∃ fs_24 : List Value, h_16 a_23 = some (.inr (1, fs_24)) ∧ ∃ (N_18 : Nat) (g_19 : Nat → Option Nat), h_16 a_17 = (some (.inl (7, N_18, .inr (.inr (.inr (.inr g_19)))))) ∧ vp_in x1 N_18 ∧ ∀ h_22 : AH, h_22 = va_up h_16 a_17 (some (.inl (7, N_18, .inr (.inr (.inr (.inr (va_up g_19 (x1).toNatClampNeg (some a_23)))))))) → (post (nI 0) h_22))))) a_14 h))))))) ∧ (z_1 = 0 → (∃ fs_34 : List Value, h b0 = some (.inr (0, fs_34)) ∧ (w_X0_refuse (fun (z_32 : Int32) (h_33 : AH) => (post z_32 h_33)) b0 (-2) h))))) ((x1).toInt64) (lN 0) (lN 1))
theorem e_X0_image {post : (Int32) → (AH) → Prop}   {b0 : Nat} {x1 : Int32} {h : AH}  (hw : w_X0_image post  b0 x1 h) : VV l E X cX0_image RX0 "image" 2 r_X0_image (some .int) (vpi (fun (r : Int32) (h' : AH) => post r h')) h 0 0 0 [(0, va_rf (some b0)), (1, .int x1)] [] := by
  refine v_iload_n (q := 1) dX0_image_0 rfl rfl ?_
  refine v_i2l dX0_image_1 ?_
  refine v_lconst (v := lN 0) dX0_image_2 rfl ?_
  refine v_lconst (v := lN 1) dX0_image_3 rfl ?_
  refine v_callS0 q393 q394 q104 q395 n_X0_in ⟨Nat.le_of_ble_eq_true rfl, Nat.le_of_ble_eq_true rfl⟩ [.long ((x1).toInt64), .long (lN 0), .long (lN 1)] [] (met_X0_in hw) rfl (Nat.zero_le _) rfl rfl dX0_image_4 rfl (v_ki (fun z_1 h1 hv => ?_))
  clear hw
  obtain ⟨e9, hw⟩ := hv
  refine v_heap e9 ?_
  clear e9
  obtain ⟨hw_4, hw_5⟩ := hw
  refine v_if_ne (tgt := 17) dX0_image_7 (by decide) (fun c_2 => ?_) (fun c_3 => ?_)
  · have hw := hw_4 c_2
    refine v_aload_n (q := 0) dX0_image_17 rfl rfl ?_
    obtain ⟨fs_6, r_9, e_7, e_8, hw⟩ := hw
    refine v_get in_X0 (ci := 0) rfl 2 (Nat.le_of_ble_eq_true rfl) q320 rfl dX0_image_18 e_7 e_8 ?_
    refine v_iload_n (q := 1) dX0_image_21 rfl rfl ?_
    refine v_aload_n (q := 0) dX0_image_22 rfl rfl ?_
    obtain ⟨fs_10, r_13, e_11, e_12, hw⟩ := hw
    refine v_get in_X0 (ci := 0) rfl 1 (Nat.le_of_ble_eq_true rfl) q319 rfl dX0_image_23 e_11 e_12 ?_
    obtain ⟨a_14, ea_14, hw⟩ := hw
    subst ea_14
    obtain ⟨fs_30, e_31, hw⟩ := hw
    obtain ⟨e_28, e_29, hw⟩ := hw
    refine v_callV q1564 q1565 q1566 q105 q1567 (ci := 1) rfl e_31 n_X1_copy ⟨Nat.le_of_ble_eq_true rfl, Nat.le_of_ble_eq_true rfl⟩ [] [.int x1, va_rf r_9] (met_X1_copy hw) rfl (by simp only [List.map_cons, List.map_nil, List.sum_cons, List.sum_nil, v_rf1, v_cI, v_cJ]; decide) ⟨e_28, e_29⟩ dX0_image_26 rfl (v_kq (fun r_15 h_16 hv => ?_))
    clear hw
    have hw := hv
    clear hv
    obtain ⟨a_17, ea_17, hw⟩ := hw
    subst ea_17
    obtain ⟨a_23, ea_23, hw⟩ := hw
    subst ea_23
    obtain ⟨fs_24, e_25, N_18, g_19, e_20, hi_21, hw⟩ := hw
    obtain ⟨h_22, eh_22⟩ : ∃ z9 : AH, z9 = va_up h_16 a_17 (some (.inl (7, N_18, .inr (.inr (.inr (.inr (va_up g_19 (x1).toNatClampNeg (some a_23)))))))) := ⟨_, rfl⟩
    replace hw := hw h_22 eh_22
    refine v_aastS (ci := 1) rfl dX0_image_29 e_20 hi_21 e_25 ?_
    rw [← eh_22]
    refine v_iconst dX0_image_30 ic_0 ?_
    exact v_iret dX0_image_31 rfl ⟨_, rfl, hw⟩
  · have hw := hw_5 c_3
    refine v_aload_n (q := 0) dX0_image_10 rfl rfl ?_
    refine v_bipush dX0_image_11 bp_m2 ?_
    obtain ⟨fs_34, e_35, hw⟩ := hw
    refine v_callV0 q396 q398 qs0 q104 q399 (ci := 0) rfl e_35 n_X0_refuse ⟨Nat.le_of_ble_eq_true rfl, Nat.le_of_ble_eq_true rfl⟩ [.int (-2)] [] (met_X0_refuse hw) rfl (Nat.zero_le _) rfl rfl dX0_image_13 rfl (v_ki (fun z_32 h_33 hv => ?_))
    clear hw
    have hw := hv
    clear hv
    exact v_iret dX0_image_16 rfl ⟨_, rfl, hw⟩
theorem met_X0_image {post : (Int32) → (AH) → Prop}   {b0 : Nat} {x1 : Int32} {h : AH}  (hw : w_X0_image post  b0 x1 h) : Mt l E yX0_image (ws_ yX0_image cX0_image 2 (some .int)) r_X0_image [va_rf (some b0), .int x1] h (vpi (fun (r : Int32) (h' : AH) => post r h')) := v_entry (by decide +kernel) (Nat.le_of_ble_eq_true rfl) rfl (fun _ => e_X0_image hw)
/-! X0_restore -/
abbrev r_X0_restore : Room := { frames := 11, cells := 1564, slots := 83500, locals := 294 }
theorem n_X0_restore : vdn yX0_restore 1 := ⟨by decide +kernel, by decide +kernel, by decide +kernel⟩
def w_X0_restore (post : (Int32) → (AH) → Prop) (b0 : Nat) (x1 : Int32) (h : AH) : Prop :=
 (w_X0_in (fun (z_1 : Int32) => ((¬ z_1 = 0 → (∃ (fs_6 : List Value) (r_9 : Option Nat), h b0 = some (.inr (0, fs_6)) ∧ fs_6[2]? = some (va_rf r_9) ∧ (∃ a_10 : Nat, r_9 = some a_10 ∧ (∃ (N_11 : Nat) (g_12 : Nat → Option Nat), h a_10 = some (.inl (7, N_11, .inr (.inr (.inr (.inr g_12))))) ∧ vp_in x1 N_11 ∧ ∀ r_15 : Option Nat, r_15 = g_12 (x1).toNatClampNeg → ((r_15 = none → (∃ fs_23 : List Value, h b0 = some (.inr (0, fs_23)) ∧ (w_X0_refuse (fun (z_21 : Int32) (h_22 : AH) => (post z_21 h_22)) b0 (-5) h))) ∧ (∀ a_17 : Nat, r_15 = some a_17 → (∃ (fs_25 : List Value) (r_28 : Option Nat), h b0 = some (.inr (0, fs_25)) ∧ fs_25[2]? = some (va_rf r_28) ∧ (∃ a_29 : Nat, r_28 = some a_29 ∧ (∃ (N_30 : Nat) (g_31 : Nat → Option Nat), h a_29 = some (.inl (7, N_30, .inr (.inr (.inr (.inr g_31))))) ∧ vp_in x1 N_30 ∧ ∀ r_34 : Option Nat, r_34 = g_31 (x1).toNatClampNeg → (∃ a_35 : Nat, r_34 = some a_35 ∧ (∃ fs_48 : List Value, h a_35 = some (.inr (1, fs_48)) ∧ (0 + 1564 ≤ 1564 ∧ 0 + 83500 ≤ 83500 ∧ (w_X1_copy (fun (r_36 : Option Nat) (h_37 : AH) => (∃ fs_38 : List Value, h_37 b0 = some (.inr (0, fs_38)) ∧ 1 < fs_38.length ∧ ∀ h_41 : AH, h_41 = va_up h_37 b0 (some (.inr (0, fs_38.set 1 (va_rf r_36)))) → (∃ fs_42 : List Value, h_41 b0 = some (.inr (0, fs_42)) ∧ 16 < fs_42.length ∧ ∀ h_45 : AH, h_45 = va_up h_41 b0 (some (.inr (0, fs_42.set 16 (.int (nI 0))))) → (post (nI 0) h_45)))) a_35 h))))))))))))) ∧ (z_1 = 0 → (∃ fs_52 : List Value, h b0 = some (.inr (0, fs_52)) ∧ (w_X0_refuse (fun (z_50 : Int32) (h_51 : AH) => (post z_50 h_51)) b0 (-2) h))))) ((x1).toInt64) (lN 0) (lN 1))
theorem e_X0_restore {post : (Int32) → (AH) → Prop}   {b0 : Nat} {x1 : Int32} {h : AH}  (hw : w_X0_restore post  b0 x1 h) : VV l E X cX0_restore RX0 "restore" 2 r_X0_restore (some .int) (vpi (fun (r : Int32) (h' : AH) => post r h')) h 0 0 0 [(0, va_rf (some b0)), (1, .int x1)] [] := by
  refine v_iload_n (q := 1) dX0_restore_0 rfl rfl ?_
  refine v_i2l dX0_restore_1 ?_
  refine v_lconst (v := lN 0) dX0_restore_2 rfl ?_
  refine v_lconst (v := lN 1) dX0_restore_3 rfl ?_
  refine v_callS0 q393 q394 q104 q395 n_X0_in ⟨Nat.le_of_ble_eq_true rfl, Nat.le_of_ble_eq_true rfl⟩ [.long ((x1).toInt64), .long (lN 0), .long (lN 1)] [] (met_X0_in hw) rfl (Nat.zero_le _) rfl rfl dX0_restore_4 rfl (v_ki (fun z_1 h1 hv => ?_))
  clear hw
  obtain ⟨e9, hw⟩ := hv
  refine v_heap e9 ?_
  clear e9
  obtain ⟨hw_4, hw_5⟩ := hw
  refine v_if_ne (tgt := 17) dX0_restore_7 (by decide) (fun c_2 => ?_) (fun c_3 => ?_)
  · have hw := hw_4 c_2
    refine v_aload_n (q := 0) dX0_restore_17 rfl rfl ?_
    obtain ⟨fs_6, r_9, e_7, e_8, hw⟩ := hw
    refine v_get in_X0 (ci := 0) rfl 2 (Nat.le_of_ble_eq_true rfl) q320 rfl dX0_restore_18 e_7 e_8 ?_
    refine v_iload_n (q := 1) dX0_restore_21 rfl rfl ?_
    obtain ⟨a_10, ea_10, hw⟩ := hw
    subst ea_10
    obtain ⟨N_11, g_12, e_13, hi_14, hw⟩ := hw
    refine v_aaldS dX0_restore_22 e_13 hi_14 ?_
    refine v_topq (fun r_15 er_15 => ?_)
    replace hw := hw r_15 er_15
    obtain ⟨hw_19, hw_20⟩ := hw
    refine v_ifnonnull (tgt := 33) dX0_restore_23 (by decide) (fun c_16 => ?_) (fun a_17 c_18 => ?_)
    · have hw := hw_19 c_16
      subst c_16
      refine v_aload_n (q := 0) dX0_restore_26 rfl rfl ?_
      refine v_bipush dX0_restore_27 bp_m5 ?_
      obtain ⟨fs_23, e_24, hw⟩ := hw
      refine v_callV0 q396 q398 qs0 q104 q399 (ci := 0) rfl e_24 n_X0_refuse ⟨Nat.le_of_ble_eq_true rfl, Nat.le_of_ble_eq_true rfl⟩ [.int (-5)] [] (met_X0_refuse hw) rfl (Nat.zero_le _) rfl rfl dX0_restore_29 rfl (v_ki (fun z_21 h_22 hv => ?_))
      clear hw
      have hw := hv
      clear hv
      exact v_iret dX0_restore_32 rfl ⟨_, rfl, hw⟩
    · have hw := hw_20 a_17 c_18
      subst c_18
      refine v_aload_n (q := 0) dX0_restore_33 rfl rfl ?_
      refine v_aload_n (q := 0) dX0_restore_34 rfl rfl ?_
      obtain ⟨fs_25, r_28, e_26, e_27, hw⟩ := hw
      refine v_get in_X0 (ci := 0) rfl 2 (Nat.le_of_ble_eq_true rfl) q320 rfl dX0_restore_35 e_26 e_27 ?_
      refine v_iload_n (q := 1) dX0_restore_38 rfl rfl ?_
      obtain ⟨a_29, ea_29, hw⟩ := hw
      subst ea_29
      obtain ⟨N_30, g_31, e_32, hi_33, hw⟩ := hw
      refine v_aaldS dX0_restore_39 e_32 hi_33 ?_
      refine v_topq (fun r_34 er_34 => ?_)
      replace hw := hw r_34 er_34
      obtain ⟨a_35, ea_35, hw⟩ := hw
      subst ea_35
      obtain ⟨fs_48, e_49, hw⟩ := hw
      obtain ⟨e_46, e_47, hw⟩ := hw
      refine v_callV q1564 q1565 q1566 q105 q1567 (ci := 1) rfl e_49 n_X1_copy ⟨Nat.le_of_ble_eq_true rfl, Nat.le_of_ble_eq_true rfl⟩ [] [va_rf (some b0)] (met_X1_copy hw) rfl (by simp only [List.map_cons, List.map_nil, List.sum_cons, List.sum_nil, v_rf1, v_cI, v_cJ]; decide) ⟨e_46, e_47⟩ dX0_restore_40 rfl (v_kq (fun r_36 h_37 hv => ?_))
      clear hw
      have hw := hv
      clear hv
      obtain ⟨fs_38, e_39, e_40, hw⟩ := hw
      obtain ⟨h_41, eh_41⟩ : ∃ z9 : AH, z9 = va_up h_37 b0 (some (.inr (0, fs_38.set 1 (va_rf r_36)))) := ⟨_, rfl⟩
      replace hw := hw h_41 eh_41
      refine v_put in_X0 (ci := 0) rfl 1 (Nat.le_of_ble_eq_true rfl) tyX0 tyX0_ok nmX0 q319 rfl rfl rfl (v_rfn _ _).1 (v_rfn _ _).2 dX0_restore_43 e_39 e_40 ?_
      rw [← eh_41]
      refine v_aload_n (q := 0) dX0_restore_46 rfl rfl ?_
      refine v_iconst dX0_restore_47 ic_0 ?_
      obtain ⟨fs_42, e_43, e_44, hw⟩ := hw
      obtain ⟨h_45, eh_45⟩ : ∃ z9 : AH, z9 = va_up h_41 b0 (some (.inr (0, fs_42.set 16 (.int (nI 0))))) := ⟨_, rfl⟩
      replace hw := hw h_45 eh_45
      refine v_put in_X0 (ci := 0) rfl 16 (Nat.le_of_ble_eq_true rfl) tyX0 tyX0_ok nmX0 q335 rfl rfl rfl rfl rfl dX0_restore_48 e_43 e_44 ?_
      rw [← eh_45]
      refine v_iconst dX0_restore_51 ic_0 ?_
      exact v_iret dX0_restore_52 rfl ⟨_, rfl, hw⟩
  · have hw := hw_5 c_3
    refine v_aload_n (q := 0) dX0_restore_10 rfl rfl ?_
    refine v_bipush dX0_restore_11 bp_m2 ?_
    obtain ⟨fs_52, e_53, hw⟩ := hw
    refine v_callV0 q396 q398 qs0 q104 q399 (ci := 0) rfl e_53 n_X0_refuse ⟨Nat.le_of_ble_eq_true rfl, Nat.le_of_ble_eq_true rfl⟩ [.int (-2)] [] (met_X0_refuse hw) rfl (Nat.zero_le _) rfl rfl dX0_restore_13 rfl (v_ki (fun z_50 h_51 hv => ?_))
    clear hw
    have hw := hv
    clear hv
    exact v_iret dX0_restore_16 rfl ⟨_, rfl, hw⟩
theorem met_X0_restore {post : (Int32) → (AH) → Prop}   {b0 : Nat} {x1 : Int32} {h : AH}  (hw : w_X0_restore post  b0 x1 h) : Mt l E yX0_restore (ws_ yX0_restore cX0_restore 2 (some .int)) r_X0_restore [va_rf (some b0), .int x1] h (vpi (fun (r : Int32) (h' : AH) => post r h')) := v_entry (by decide +kernel) (Nat.le_of_ble_eq_true rfl) rfl (fun _ => e_X0_restore hw)
/-! X0_status -/
abbrev r_X0_status : Room := { frames := 1, cells := 0, slots := 0, locals := 25 }
theorem n_X0_status : vdn yX0_status 1 := ⟨by decide +kernel, by decide +kernel, by decide +kernel⟩
def w_X0_status (post : (Int32) → Prop) (b0 : Nat) (x1 : Int32) (h : AH) : Prop :=
 (w_X0_in (fun (z_1 : Int32) => ((z_1 = 0 → (post (-1))) ∧ (¬ z_1 = 0 → (∃ (fs_6 : List Value) (r_9 : Option Nat), h b0 = some (.inr (0, fs_6)) ∧ fs_6[3]? = some (va_rf r_9) ∧ (∃ a_10 : Nat, r_9 = some a_10 ∧ (∃ (N_11 : Nat) (g_12 : Nat → Int32), h a_10 = some (.inl (0, N_11, .inl g_12)) ∧ vp_in x1 N_11 ∧ (post (g_12 (x1).toNatClampNeg)))))))) ((x1).toInt64) (lN 1) (lN 7))
theorem e_X0_status {post : (Int32) → Prop}   {b0 : Nat} {x1 : Int32} {h : AH}  (hw : w_X0_status post  b0 x1 h) : VV l E X cX0_status RX0 "status" 2 r_X0_status (some .int) (vpi (fun (r : Int32) (h' : AH) => h' = h ∧ post r)) h 0 0 0 [(0, va_rf (some b0)), (1, .int x1)] [] := by
  refine v_iload_n (q := 1) dX0_status_0 rfl rfl ?_
  refine v_i2l dX0_status_1 ?_
  refine v_lconst (v := lN 1) dX0_status_2 rfl ?_
  refine v_ldc2 (v := (lN 7)) dX0_status_3 q1603 ?_
  refine v_callS q393 q394 q104 q395 n_X0_in ⟨Nat.le_of_ble_eq_true rfl, Nat.le_of_ble_eq_true rfl⟩ [.long ((x1).toInt64), .long (lN 1), .long (lN 7)] [] (met_X0_in hw) rfl (Nat.zero_le _) ⟨Nat.le_refl _, Nat.le_refl _⟩ dX0_status_6 rfl (v_ki (fun z_1 h1 hv => ?_))
  clear hw
  obtain ⟨e9, hw⟩ := hv
  refine v_heap e9 ?_
  clear e9
  obtain ⟨hw_4, hw_5⟩ := hw
  refine v_if_eq (tgt := 21) dX0_status_9 (by decide) (fun c_2 => ?_) (fun c_3 => ?_)
  · have hw := hw_4 c_2
    refine v_iconst dX0_status_21 ic_m1 ?_
    exact v_iret dX0_status_22 rfl ⟨_, rfl, rfl, hw⟩
  · have hw := hw_5 c_3
    refine v_aload_n (q := 0) dX0_status_12 rfl rfl ?_
    obtain ⟨fs_6, r_9, e_7, e_8, hw⟩ := hw
    refine v_get in_X0 (ci := 0) rfl 3 (Nat.le_of_ble_eq_true rfl) q321 rfl dX0_status_13 e_7 e_8 ?_
    refine v_iload_n (q := 1) dX0_status_16 rfl rfl ?_
    obtain ⟨a_10, ea_10, hw⟩ := hw
    subst ea_10
    obtain ⟨N_11, g_12, e_13, hi_14, hw⟩ := hw
    refine v_iald dX0_status_17 e_13 hi_14 ?_
    refine v_goto (tgt := 22) dX0_status_18 (by decide) ?_
    exact v_iret dX0_status_22 rfl ⟨_, rfl, rfl, hw⟩
theorem met_X0_status {post : (Int32) → Prop}   {b0 : Nat} {x1 : Int32} {h : AH}  (hw : w_X0_status post  b0 x1 h) : Mt l E yX0_status (ws_ yX0_status cX0_status 2 (some .int)) r_X0_status [va_rf (some b0), .int x1] h (vpi (fun (r : Int32) (h' : AH) => h' = h ∧ post r)) := v_entry (by decide +kernel) (Nat.le_of_ble_eq_true rfl) rfl (fun _ => e_X0_status hw)
end WALK
