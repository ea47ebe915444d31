set_option maxRecDepth 100000
section WALK
variable {l : Launch} {E : VE} {X : VX} {b : Nat → Nat}
/-! X0_seeks -/
abbrev r_X0_seeks : Room := { frames := 2, cells := 0, slots := 0, locals := 51 }
theorem n_X0_seeks : vdn yX0_seeks 4 := ⟨by decide +kernel, by decide +kernel, by decide +kernel⟩
def w_X0_seeks (post : (AH) → Prop) (b0 : Nat) (x1 : Option Nat) (x2 : Option Nat) (x3 : Int32) (x4 : Int32) (h : AH) : Prop :=
 (∃ fs_23 : List Value, h b0 = some (.inr (0, fs_23)) ∧ (w_X0_likeness (fun (z_1 : Int32) (h_2 : AH) => (∃ (fs_3 : List Value) (z_6 : Int32), h_2 b0 = some (.inr (0, fs_3)) ∧ fs_3[11]? = some (.int z_6) ∧ ((z_6 < z_1 → (∃ fs_11 : List Value, h_2 b0 = some (.inr (0, fs_11)) ∧ 11 < fs_11.length ∧ ∀ h_14 : AH, h_14 = va_up h_2 b0 (some (.inr (0, fs_11.set 11 (.int z_1)))) → (∃ fs_15 : List Value, h_14 b0 = some (.inr (0, fs_15)) ∧ 12 < fs_15.length ∧ ∀ h_18 : AH, h_18 = va_up h_14 b0 (some (.inr (0, fs_15.set 12 (.int x3)))) → (∃ fs_19 : List Value, h_18 b0 = some (.inr (0, fs_19)) ∧ 13 < fs_19.length ∧ ∀ h_22 : AH, h_22 = va_up h_18 b0 (some (.inr (0, fs_19.set 13 (.int x4)))) → (post h_22))))) ∧ (¬ z_6 < z_1 → (post h_2))))) b0 x1 x2 h))
theorem e_X0_seeks {post : (AH) → Prop}   {b0 : Nat} {x1 : Option Nat} {x2 : Option Nat} {x3 : Int32} {x4 : Int32} {h : AH}  (hw : w_X0_seeks post  b0 x1 x2 x3 x4 h) : VV l E X cX0_seeks RX0 "seeks" 6 r_X0_seeks none (vpv (fun (h' : AH) => post h')) h 0 0 0 [(0, va_rf (some b0)), (1, va_rf x1), (2, va_rf x2), (3, .int x3), (4, .int x4)] [] := by
  refine v_aload_n (q := 0) dX0_seeks_0 rfl rfl ?_
  refine v_aload_n (q := 1) dX0_seeks_1 rfl rfl ?_
  refine v_aload_n (q := 2) dX0_seeks_2 rfl rfl ?_
  obtain ⟨fs_23, e_24, hw⟩ := hw
  refine v_callV q621 q623 qs8 q104 q624 (ci := 0) rfl e_24 n_X0_likeness ⟨Nat.le_of_ble_eq_true rfl, Nat.le_of_ble_eq_true rfl⟩ [va_rf x1, va_rf x2] [] (met_X0_likeness hw) rfl (Nat.zero_le _) ⟨Nat.le_refl _, Nat.le_refl _⟩ dX0_seeks_3 rfl (v_ki (fun z_1 h_2 hv => ?_))
  clear hw
  have hw := hv
  clear hv
  refine v_istore (lv1 := [(5, .int z_1), (0, va_rf (some b0)), (1, va_rf x1), (2, va_rf x2), (3, .int x3), (4, .int x4)]) dX0_seeks_6 (Nat.le_of_ble_eq_true rfl) rfl ?_
  refine v_iload (q := 0) dX0_seeks_8 rfl ?_
  refine v_aload_n (q := 1) dX0_seeks_10 rfl rfl ?_
  obtain ⟨fs_3, z_6, e_4, e_5, hw⟩ := hw
  refine v_get in_X0 (ci := 0) rfl 11 (Nat.le_of_ble_eq_true rfl) q330 rfl dX0_seeks_11 e_4 e_5 ?_
  obtain ⟨hw_9, hw_10⟩ := hw
  refine v_icmp_gt (tgt := 18) dX0_seeks_14 (by decide) (fun c_7 => ?_) (fun c_8 => ?_)
  · have hw := hw_9 c_7
    refine v_aload_n (q := 1) dX0_seeks_18 rfl rfl ?_
    refine v_iload (q := 0) dX0_seeks_19 rfl ?_
    obtain ⟨fs_11, e_12, e_13, hw⟩ := hw
    obtain ⟨h_14, eh_14⟩ : ∃ z9 : AH, z9 = va_up h_2 b0 (some (.inr (0, fs_11.set 11 (.int z_1)))) := ⟨_, rfl⟩
    replace hw := hw h_14 eh_14
    refine v_put in_X0 (ci := 0) rfl 11 (Nat.le_of_ble_eq_true rfl) tyX0 tyX0_ok nmX0 q330 rfl rfl rfl rfl rfl dX0_seeks_21 e_12 e_13 ?_
    rw [← eh_14]
    refine v_aload_n (q := 1) dX0_seeks_24 rfl rfl ?_
    refine v_iload_n (q := 4) dX0_seeks_25 rfl rfl ?_
    obtain ⟨fs_15, e_16, e_17, hw⟩ := hw
    obtain ⟨h_18, eh_18⟩ : ∃ z9 : AH, z9 = va_up h_14 b0 (some (.inr (0, fs_15.set 12 (.int x3)))) := ⟨_, rfl⟩
    replace hw := hw h_18 eh_18
    refine v_put in_X0 (ci := 0) rfl 12 (Nat.le_of_ble_eq_true rfl) tyX0 tyX0_ok nmX0 q331 rfl rfl rfl rfl rfl dX0_seeks_26 e_16 e_17 ?_
    rw [← eh_18]
    refine v_aload_n (q := 1) dX0_seeks_29 rfl rfl ?_
    refine v_iload (q := 5) dX0_seeks_30 rfl ?_
    obtain ⟨fs_19, e_20, e_21, hw⟩ := hw
    obtain ⟨h_22, eh_22⟩ : ∃ z9 : AH, z9 = va_up h_18 b0 (some (.inr (0, fs_19.set 13 (.int x4)))) := ⟨_, rfl⟩
    replace hw := hw h_22 eh_22
    refine v_put in_X0 (ci := 0) rfl 13 (Nat.le_of_ble_eq_true rfl) tyX0 tyX0_ok nmX0 q332 rfl rfl rfl rfl rfl dX0_seeks_32 e_20 e_21 ?_
    rw [← eh_22]
    exact v_vret dX0_seeks_35 rfl ⟨rfl, hw⟩
  · have hw := hw_10 c_8
    exact v_vret dX0_seeks_17 rfl ⟨rfl, hw⟩
theorem met_X0_seeks {post : (AH) → Prop}   {b0 : Nat} {x1 : Option Nat} {x2 : Option Nat} {x3 : Int32} {x4 : Int32} {h : AH}  (hw : w_X0_seeks post  b0 x1 x2 x3 x4 h) : Mt l E yX0_seeks (ws_ yX0_seeks cX0_seeks 6 none) r_X0_seeks [va_rf (some b0), va_rf x1, va_rf x2, .int x3, .int x4] h (vpv (fun (h' : AH) => post h')) := v_entry (by decide +kernel) (by cases x1 <;> cases x2 <;> exact (Nat.le_of_ble_eq_true rfl)) (by cases x1 <;> cases x2 <;> exact rfl) (fun _ => e_X0_seeks hw)
/-! X0_seekSongs -/
abbrev r_X0_seekSongs : Room := { frames := 3, cells := 0, slots := 0, locals := 76 }
theorem n_X0_seekSongs : vdn yX0_seekSongs 3 := ⟨by decide +kernel, by decide +kernel, by decide +kernel⟩
def w_X0_seekSongs_135 (post : (Int32) → (AH) → Prop) (k8 : (Int32) → (AH) → Prop) (k86 : (Int32) → (Option Nat) → (Int32) → (AH) → Prop) (b0 : Nat) (x1 : Option Nat) (x2 : Int32) (x3 : Int32) (x4 : Int32) (x5 : Option Nat) (x6 : Int32) (s0 : Option Nat) (h : AH) : Prop :=
 (∃ fs_3 : List Value, h b0 = some (.inr (0, fs_3)) ∧ (w_X0_seeks (fun (h_1 : AH) => (∀ z_2 : Int32, z_2 = x6 + (nI 1) → (k86 x4 x5 z_2 h_1))) b0 x1 s0 x4 x6 h))
def w_X0_seekSongs_148 (post : (Int32) → (AH) → Prop) (k8 : (Int32) → (AH) → Prop) (b0 : Nat) (x1 : Option Nat) (x2 : Int32) (x3 : Int32) (x4 : Int32) (h : AH) : Prop :=
 (∀ z_5 : Int32, z_5 = x4 + (nI 1) → (k8 z_5 h))
def w_X0_seekSongs_86 (post : (Int32) → (AH) → Prop) (k8 : (Int32) → (AH) → Prop) (b0 : Nat) (x1 : Option Nat) (x2 : Int32) (x3 : Int32) : Nat → (Int32) → (Option Nat) → (Int32) → (AH) → Prop
 | 0, _, _, _, _ => False
 | n0 + 1, x4, x5, x6, h =>
 (∃ a_6 : Nat, x5 = some a_6 ∧ (∃ (fs_7 : List Value) (r_10 : Option Nat), h a_6 = some (.inr (8, fs_7)) ∧ fs_7[4]? = some (va_rf r_10) ∧ (∃ a_11 : Nat, r_10 = some a_11 ∧ (∃ fs_42 : List Value, h a_11 = some (.inr (2, fs_42)) ∧ (w_J2_size (fun (z_12 : Int32) => ((z_12 ≤ x6 → (w_X0_seekSongs_148 post k8 b0 x1 x2 x3 x4 h)) ∧ (¬ z_12 ≤ x6 → ((¬ x3 = (nI 2) → (∃ (fs_21 : List Value) (r_24 : Option Nat), h a_6 = some (.inr (8, fs_21)) ∧ fs_21[4]? = some (va_rf r_24) ∧ (∃ a_25 : Nat, r_24 = some a_25 ∧ (∃ fs_30 : List Value, h a_25 = some (.inr (2, fs_30)) ∧ (w_J2_get (fun (r_26 : Option Nat) => (∃ a_27 : Nat, r_26 = some a_27 ∧ (∃ fs_28 : List Value, h a_27 = some (.inr (9, fs_28)) ∧ (w_X0_seekSongs_135 post k8 (fun (q0 : Int32) (q1 : Option Nat) (q2 : Int32) (q3 : AH) => w_X0_seekSongs_86 post k8 b0 x1 x2 x3 n0 q0 q1 q2 q3) b0 x1 x2 x3 x4 (some a_6) x6 (some a_27) h)))) a_25 x6 h))))) ∧ (x3 = (nI 2) → (∃ (fs_32 : List Value) (r_35 : Option Nat), h b0 = some (.inr (0, fs_32)) ∧ fs_32[14]? = some (va_rf r_35) ∧ (∃ a_36 : Nat, r_35 = some a_36 ∧ (∃ (N_37 : Nat) (g_38 : Nat → Option Nat), h a_36 = some (.inl (6, N_37, .inr (.inr (.inr (.inr g_38))))) ∧ vp_in (((nI 12) * x4) + x6) N_37 ∧ ∀ r_41 : Option Nat, r_41 = g_38 ((((nI 12) * x4) + x6)).toNatClampNeg → (w_X0_seekSongs_135 post k8 (fun (q0 : Int32) (q1 : Option Nat) (q2 : Int32) (q3 : AH) => w_X0_seekSongs_86 post k8 b0 x1 x2 x3 n0 q0 q1 q2 q3) b0 x1 x2 x3 x4 (some a_6) x6 r_41 h))))))))) a_11 h)))))
def w_X0_seekSongs_83 (post : (Int32) → (AH) → Prop) (k8 : (Int32) → (AH) → Prop) (b0 : Nat) (x1 : Option Nat) (x2 : Int32) (x3 : Int32) (x4 : Int32) (x5 : Option Nat) (h : AH) : Prop :=
 (∃ n1 : Nat, (w_X0_seekSongs_86 post k8 b0 x1 x2 x3 n1 x4 x5 (nI 0) h))
def w_X0_seekSongs_77 (post : (Int32) → (AH) → Prop) (k8 : (Int32) → (AH) → Prop) (b0 : Nat) (x1 : Option Nat) (x2 : Int32) (x3 : Int32) (x4 : Int32) (x5 : Option Nat) (s0 : Int32) (s1 : Int32) (h : AH) : Prop :=
 ((s1 = s0 → (w_X0_seekSongs_83 post k8 b0 x1 x2 x3 x4 x5 h)) ∧ (¬ s1 = s0 → (w_X0_seekSongs_148 post k8 b0 x1 x2 x3 x4 h)))
def w_X0_seekSongs_68 (post : (Int32) → (AH) → Prop) (k8 : (Int32) → (AH) → Prop) (b0 : Nat) (x1 : Option Nat) (x2 : Int32) (x3 : Int32) (x4 : Int32) (x5 : Option Nat) (s0 : Int32) (h : AH) : Prop :=
 ((¬ x3 = 0 → (w_X0_seekSongs_77 post k8 b0 x1 x2 x3 x4 x5 (nI 0) s0 h)) ∧ (x3 = 0 → (w_X0_seekSongs_77 post k8 b0 x1 x2 x3 x4 x5 (nI 1) s0 h)))
def w_X0_seekSongs_8 (post : (Int32) → (AH) → Prop) (b0 : Nat) (x1 : Option Nat) (x2 : Int32) (x3 : Int32) : Nat → (Int32) → (AH) → Prop
 | 0, _, _ => False
 | n0 + 1, x4, h =>
 (∃ (fs_53 : List Value) (r_56 : Option Nat), h b0 = some (.inr (0, fs_53)) ∧ fs_53[1]? = some (va_rf r_56) ∧ (∃ a_57 : Nat, r_56 = some a_57 ∧ (∃ (fs_58 : List Value) (r_61 : Option Nat), h a_57 = some (.inr (1, fs_58)) ∧ fs_58[3]? = some (va_rf r_61) ∧ (∃ a_62 : Nat, r_61 = some a_62 ∧ (∃ fs_107 : List Value, h a_62 = some (.inr (2, fs_107)) ∧ (w_J2_size (fun (z_63 : Int32) => ((z_63 ≤ x4 → (∃ (fs_68 : List Value) (z_71 : Int32), h b0 = some (.inr (0, fs_68)) ∧ fs_68[11]? = some (.int z_71) ∧ (post z_71 h))) ∧ (¬ z_63 ≤ x4 → (∃ (fs_72 : List Value) (r_75 : Option Nat), h b0 = some (.inr (0, fs_72)) ∧ fs_72[1]? = some (va_rf r_75) ∧ (∃ a_76 : Nat, r_75 = some a_76 ∧ (∃ (fs_77 : List Value) (r_80 : Option Nat), h a_76 = some (.inr (1, fs_77)) ∧ fs_77[3]? = some (va_rf r_80) ∧ (∃ a_81 : Nat, r_80 = some a_81 ∧ (∃ fs_105 : List Value, h a_81 = some (.inr (2, fs_105)) ∧ (w_J2_get (fun (r_82 : Option Nat) => (∃ a_83 : Nat, r_82 = some a_83 ∧ (∃ fs_84 : List Value, h a_83 = some (.inr (8, fs_84)) ∧ (∃ fs_103 : List Value, h b0 = some (.inr (0, fs_103)) ∧ (w_X0_isEarly (fun (z_86 : Int32) => ((z_86 = 0 → (w_X0_seekSongs_148 post (fun (q0 : Int32) (q1 : AH) => w_X0_seekSongs_8 post b0 x1 x2 x3 n0 q0 q1) b0 x1 x2 x3 x4 h)) ∧ (¬ z_86 = 0 → (((nI 2) ≤ x3 → (w_X0_seekSongs_83 post (fun (q0 : Int32) (q1 : AH) => w_X0_seekSongs_8 post b0 x1 x2 x3 n0 q0 q1) b0 x1 x2 x3 x4 (some a_83) h)) ∧ (¬ (nI 2) ≤ x3 → (∃ (fs_95 : List Value) (z_98 : Int32), h a_83 = some (.inr (8, fs_95)) ∧ fs_95[1]? = some (.int z_98) ∧ ((¬ z_98 = x2 → (w_X0_seekSongs_68 post (fun (q0 : Int32) (q1 : AH) => w_X0_seekSongs_8 post b0 x1 x2 x3 n0 q0 q1) b0 x1 x2 x3 x4 (some a_83) (nI 0) h)) ∧ (z_98 = x2 → (w_X0_seekSongs_68 post (fun (q0 : Int32) (q1 : AH) => w_X0_seekSongs_8 post b0 x1 x2 x3 n0 q0 q1) b0 x1 x2 x3 x4 (some a_83) (nI 1) h))))))))) b0 (some a_83) h))))) a_81 x4 h))))))))) a_62 h))))))
def w_X0_seekSongs (post : (Int32) → (AH) → Prop) (b0 : Nat) (x1 : Option Nat) (x2 : Int32) (x3 : Int32) (h : AH) : Prop :=
 (∃ fs_109 : List Value, h b0 = some (.inr (0, fs_109)) ∧ 11 < fs_109.length ∧ ∀ h_112 : AH, h_112 = va_up h b0 (some (.inr (0, fs_109.set 11 (.int (-1))))) → (∃ n1 : Nat, (w_X0_seekSongs_8 post b0 x1 x2 x3 n1 (nI 0) h_112)))
theorem b_X0_seekSongs_135 {post : (Int32) → (AH) → Prop}   {b0 : Nat} {x1 : Option Nat} {x2 : Int32} {x3 : Int32} {k8 : (Int32) → (AH) → Prop} {k86 : (Int32) → (Option Nat) → (Int32) → (AH) → Prop}  (hk8 : ∀ (x4 : Int32) (h : AH), k8 x4 h → VV l E X cX0_seekSongs RX0 "seekSongs" 7 r_X0_seekSongs (some .int) (vpi (fun (r : Int32) (h' : AH) => post r h')) h 0 0 8 [(0, va_rf (some b0)), (1, va_rf x1), (2, .int x2), (3, .int x3), (4, .int x4)] []) (hk86 : ∀ (x4 : Int32) (x5 : Option Nat) (x6 : Int32) (h : AH), k86 x4 x5 x6 h → VV l E X cX0_seekSongs RX0 "seekSongs" 7 r_X0_seekSongs (some .int) (vpi (fun (r : Int32) (h' : AH) => post r h')) h 0 0 86 [(0, va_rf (some b0)), (1, va_rf x1), (2, .int x2), (3, .int x3), (4, .int x4), (5, va_rf x5), (6, .int x6)] []) (x4 : Int32) (x5 : Option Nat) (x6 : Int32) (s0 : Option Nat) (h : AH) (hw : w_X0_seekSongs_135 post k8 k86 b0 x1 x2 x3 x4 x5 x6 s0 h) : VV l E X cX0_seekSongs RX0 "seekSongs" 7 r_X0_seekSongs (some .int) (vpi (fun (r : Int32) (h' : AH) => post r h')) h 0 0 135 [(0, va_rf (some b0)), (1, va_rf x1), (2, .int x2), (3, .int x3), (4, .int x4), (5, va_rf x5), (6, .int x6)] [va_rf s0, va_rf x1, va_rf (some b0)] := by
  refine v_iload (q := 4) dX0_seekSongs_135 rfl ?_
  refine v_iload (q := 6) dX0_seekSongs_137 rfl ?_
  obtain ⟨fs_3, e_4, hw⟩ := hw
  refine v_callV q1027 q1029 qs36 q104 q1030 (ci := 0) rfl e_4 n_X0_seeks ⟨Nat.le_of_ble_eq_true rfl, Nat.le_of_ble_eq_true rfl⟩ [va_rf x1, va_rf s0, .int x4, .int x6] [] (met_X0_seeks hw) rfl (Nat.zero_le _) ⟨Nat.le_refl _, Nat.le_refl _⟩ dX0_seekSongs_139 rfl (v_kv (fun h_1 hv => ?_))
  clear hw
  have hw := hv
  clear hv
  obtain ⟨z_2, e_2⟩ : ∃ z9 : Int32, z9 = x6 + (nI 1) := ⟨_, rfl⟩
  replace hw := hw z_2 e_2
  refine v_iinc (q := 6) (v := z_2) (lv1 := [(6, .int z_2), (0, va_rf (some b0)), (1, va_rf x1), (2, .int x2), (3, .int x3), (4, .int x4), (5, va_rf x5)]) dX0_seekSongs_142 rfl (by rw [e_2, ic_1]) (Nat.le_of_ble_eq_true rfl) (by cases x5 <;> rfl) ?_
  refine v_goto (tgt := 86) dX0_seekSongs_145 (by decide) ?_
  refine v_sub [1, 2, 3, 4, 5, 6, 0] rfl ?_
  exact hk86 x4 x5 z_2 h_1 hw
theorem b_X0_seekSongs_148 {post : (Int32) → (AH) → Prop}   {b0 : Nat} {x1 : Option Nat} {x2 : Int32} {x3 : Int32} {k8 : (Int32) → (AH) → Prop}  (hk8 : ∀ (x4 : Int32) (h : AH), k8 x4 h → VV l E X cX0_seekSongs RX0 "seekSongs" 7 r_X0_seekSongs (some .int) (vpi (fun (r : Int32) (h' : AH) => post r h')) h 0 0 8 [(0, va_rf (some b0)), (1, va_rf x1), (2, .int x2), (3, .int x3), (4, .int x4)] []) (x4 : Int32) (h : AH) (hw : w_X0_seekSongs_148 post k8 b0 x1 x2 x3 x4 h) : VV l E X cX0_seekSongs RX0 "seekSongs" 7 r_X0_seekSongs (some .int) (vpi (fun (r : Int32) (h' : AH) => post r h')) h 0 0 148 [(0, va_rf (some b0)), (1, va_rf x1), (2, .int x2), (3, .int x3), (4, .int x4)] [] := by
  obtain ⟨z_5, e_5⟩ : ∃ z9 : Int32, z9 = x4 + (nI 1) := ⟨_, rfl⟩
  replace hw := hw z_5 e_5
  refine v_iinc (q := 4) (v := z_5) (lv1 := [(4, .int z_5), (0, va_rf (some b0)), (1, va_rf x1), (2, .int x2), (3, .int x3)]) dX0_seekSongs_148 rfl (by rw [e_5, ic_1]) (Nat.le_of_ble_eq_true rfl) rfl ?_
  refine v_goto (tgt := 8) dX0_seekSongs_151 (by decide) ?_
  refine v_sub [1, 2, 3, 4, 0] rfl ?_
  exact hk8 z_5 h hw
theorem b_X0_seekSongs_86 {post : (Int32) → (AH) → Prop}   {b0 : Nat} {x1 : Option Nat} {x2 : Int32} {x3 : Int32} {k8 : (Int32) → (AH) → Prop}  (hk8 : ∀ (x4 : Int32) (h : AH), k8 x4 h → VV l E X cX0_seekSongs RX0 "seekSongs" 7 r_X0_seekSongs (some .int) (vpi (fun (r : Int32) (h' : AH) => post r h')) h 0 0 8 [(0, va_rf (some b0)), (1, va_rf x1), (2, .int x2), (3, .int x3), (4, .int x4)] []) : ∀ (n0 : Nat) (x4 : Int32) (x5 : Option Nat) (x6 : Int32) (h : AH), w_X0_seekSongs_86 post k8 b0 x1 x2 x3 n0 x4 x5 x6 h → VV l E X cX0_seekSongs RX0 "seekSongs" 7 r_X0_seekSongs (some .int) (vpi (fun (r : Int32) (h' : AH) => post r h')) h 0 0 86 [(0, va_rf (some b0)), (1, va_rf x1), (2, .int x2), (3, .int x3), (4, .int x4), (5, va_rf x5), (6, .int x6)] [] := by
  intro n0
  induction n0 with
  | zero =>
    intro x4 x5 x6 h hw
    exact hw.elim
  | succ n0 ih =>
    intro x4 x5 x6 h hw
    refine v_iload (q := 6) dX0_seekSongs_86 rfl ?_
    refine v_aload (q := 5) dX0_seekSongs_88 rfl ?_
    obtain ⟨a_6, ea_6, hw⟩ := hw
    subst ea_6
    obtain ⟨fs_7, r_10, e_8, e_9, hw⟩ := hw
    refine v_getN in_X7 (ci := 8) rfl 4 (Nat.le_of_ble_eq_true rfl) q433 rfl dX0_seekSongs_90 e_8 e_9 ?_
    obtain ⟨a_11, ea_11, hw⟩ := hw
    subst ea_11
    obtain ⟨fs_42, e_43, hw⟩ := hw
    refine v_callV q413 q414 q415 q108 q416 (ci := 2) rfl e_43 n_J2_size ⟨Nat.le_of_ble_eq_true rfl, Nat.le_of_ble_eq_true rfl⟩ [] [.int x6] (met_J2_size hw) rfl (Nat.le_of_ble_eq_true rfl) ⟨Nat.le_refl _, Nat.le_refl _⟩ dX0_seekSongs_93 rfl (v_ki (fun z_12 h1 hv => ?_))
    clear hw
    obtain ⟨e9, hw⟩ := hv
    refine v_heap e9 ?_
    clear e9
    obtain ⟨hw_15, hw_16⟩ := hw
    refine v_icmp_ge (tgt := 148) dX0_seekSongs_96 (by decide) (fun c_13 => ?_) (fun c_14 => ?_)
    · have hw := hw_15 c_13
      refine v_sub [0, 1, 2, 3, 4] rfl ?_
      exact b_X0_seekSongs_148 hk8 x4 h hw
    · have hw := hw_16 c_14
      refine v_aload_n (q := 0) dX0_seekSongs_99 rfl rfl ?_
      refine v_aload_n (q := 1) dX0_seekSongs_100 rfl rfl ?_
      refine v_iload_n (q := 3) dX0_seekSongs_101 rfl rfl ?_
      refine v_iconst dX0_seekSongs_102 ic_2 ?_
      obtain ⟨hw_19, hw_20⟩ := hw
      refine v_icmp_ne (tgt := 122) dX0_seekSongs_103 (by decide) (fun c_17 => ?_) (fun c_18 => ?_)
      · have hw := hw_19 c_17
        refine v_aload (q := 5) dX0_seekSongs_122 rfl ?_
        obtain ⟨fs_21, r_24, e_22, e_23, hw⟩ := hw
        refine v_getN in_X7 (ci := 8) rfl 4 (Nat.le_of_ble_eq_true rfl) q433 rfl dX0_seekSongs_124 e_22 e_23 ?_
        refine v_iload (q := 6) dX0_seekSongs_127 rfl ?_
        obtain ⟨a_25, ea_25, hw⟩ := hw
        subst ea_25
        obtain ⟨fs_30, e_31, hw⟩ := hw
        refine v_callV q577 q578 q579 q108 q580 (ci := 2) rfl e_31 n_J2_get ⟨Nat.le_of_ble_eq_true rfl, Nat.le_of_ble_eq_true rfl⟩ [.int x6] [va_rf x1, va_rf (some b0)] (met_J2_get hw) rfl (by simp only [List.map_cons, List.map_nil, List.sum_cons, List.sum_nil, v_rf1, v_cI, v_cJ]; decide) ⟨Nat.le_refl _, Nat.le_refl _⟩ dX0_seekSongs_129 rfl (v_kq (fun r_26 h1 hv => ?_))
        clear hw
        obtain ⟨e9, hw⟩ := hv
        refine v_heap e9 ?_
        clear e9
        obtain ⟨a_27, ea_27, hw⟩ := hw
        subst ea_27
        obtain ⟨fs_28, e_29, hw⟩ := hw
        refine v_cast (ci := 9) rfl q304 dX0_seekSongs_132 e_29 ?_
        refine v_sub [0, 1, 2, 3, 4, 5, 6] rfl ?_
        exact b_X0_seekSongs_135 hk8 (fun q0 q1 q2 q3 z => ih q0 q1 q2 q3 z) x4 (some a_6) x6 (some a_27) h hw
      · have hw := hw_20 c_18
        refine v_aload_n (q := 0) dX0_seekSongs_106 rfl rfl ?_
        obtain ⟨fs_32, r_35, e_33, e_34, hw⟩ := hw
        refine v_get in_X0 (ci := 0) rfl 14 (Nat.le_of_ble_eq_true rfl) q333 rfl dX0_seekSongs_107 e_33 e_34 ?_
        refine v_bipush dX0_seekSongs_110 bp_12 ?_
        refine v_iload (q := 4) dX0_seekSongs_112 rfl ?_
        refine v_imul dX0_seekSongs_114 ?_
        refine v_iload (q := 6) dX0_seekSongs_115 rfl ?_
        refine v_iadd dX0_seekSongs_117 ?_
        obtain ⟨a_36, ea_36, hw⟩ := hw
        subst ea_36
        obtain ⟨N_37, g_38, e_39, hi_40, hw⟩ := hw
        refine v_aaldP dX0_seekSongs_118 e_39 hi_40 ?_
        refine v_topq (fun r_41 er_41 => ?_)
        replace hw := hw r_41 er_41
        refine v_goto (tgt := 135) dX0_seekSongs_119 (by decide) ?_
        refine v_sub [0, 1, 2, 3, 4, 5, 6] rfl ?_
        exact b_X0_seekSongs_135 hk8 (fun q0 q1 q2 q3 z => ih q0 q1 q2 q3 z) x4 (some a_6) x6 r_41 h hw
theorem b_X0_seekSongs_83 {post : (Int32) → (AH) → Prop}   {b0 : Nat} {x1 : Option Nat} {x2 : Int32} {x3 : Int32} {k8 : (Int32) → (AH) → Prop}  (hk8 : ∀ (x4 : Int32) (h : AH), k8 x4 h → VV l E X cX0_seekSongs RX0 "seekSongs" 7 r_X0_seekSongs (some .int) (vpi (fun (r : Int32) (h' : AH) => post r h')) h 0 0 8 [(0, va_rf (some b0)), (1, va_rf x1), (2, .int x2), (3, .int x3), (4, .int x4)] []) (x4 : Int32) (x5 : Option Nat) (h : AH) (hw : w_X0_seekSongs_83 post k8 b0 x1 x2 x3 x4 x5 h) : VV l E X cX0_seekSongs RX0 "seekSongs" 7 r_X0_seekSongs (some .int) (vpi (fun (r : Int32) (h' : AH) => post r h')) h 0 0 83 [(0, va_rf (some b0)), (1, va_rf x1), (2, .int x2), (3, .int x3), (4, .int x4), (5, va_rf x5)] [] := by
  refine v_iconst dX0_seekSongs_83 ic_0 ?_
  refine v_istore (lv1 := [(6, .int (nI 0)), (0, va_rf (some b0)), (1, va_rf x1), (2, .int x2), (3, .int x3), (4, .int x4), (5, va_rf x5)]) dX0_seekSongs_84 (Nat.le_of_ble_eq_true rfl) (by cases x5 <;> rfl) ?_
  obtain ⟨n_44, hw⟩ := hw
  refine v_sub [1, 2, 3, 4, 5, 6, 0] rfl ?_
  exact b_X0_seekSongs_86 hk8 n_44 x4 x5 (nI 0) h hw
theorem b_X0_seekSongs_77 {post : (Int32) → (AH) → Prop}   {b0 : Nat} {x1 : Option Nat} {x2 : Int32} {x3 : Int32} {k8 : (Int32) → (AH) → Prop}  (hk8 : ∀ (x4 : Int32) (h : AH), k8 x4 h → VV l E X cX0_seekSongs RX0 "seekSongs" 7 r_X0_seekSongs (some .int) (vpi (fun (r : Int32) (h' : AH) => post r h')) h 0 0 8 [(0, va_rf (some b0)), (1, va_rf x1), (2, .int x2), (3, .int x3), (4, .int x4)] []) (x4 : Int32) (x5 : Option Nat) (s0 : Int32) (s1 : Int32) (h : AH) (hw : w_X0_seekSongs_77 post k8 b0 x1 x2 x3 x4 x5 s0 s1 h) : VV l E X cX0_seekSongs RX0 "seekSongs" 7 r_X0_seekSongs (some .int) (vpi (fun (r : Int32) (h' : AH) => post r h')) h 0 0 77 [(0, va_rf (some b0)), (1, va_rf x1), (2, .int x2), (3, .int x3), (4, .int x4), (5, va_rf x5)] [.int s0, .int s1] := by
  obtain ⟨hw_47, hw_48⟩ := hw
  refine v_icmp_eq (tgt := 83) dX0_seekSongs_77 (by decide) (fun c_45 => ?_) (fun c_46 => ?_)
  · have hw := hw_47 c_45
    refine v_sub [0, 1, 2, 3, 4, 5] rfl ?_
    exact b_X0_seekSongs_83 hk8 x4 x5 h hw
  · have hw := hw_48 c_46
    refine v_goto (tgt := 148) dX0_seekSongs_80 (by decide) ?_
    refine v_sub [0, 1, 2, 3, 4] rfl ?_
    exact b_X0_seekSongs_148 hk8 x4 h hw
theorem b_X0_seekSongs_68 {post : (Int32) → (AH) → Prop}   {b0 : Nat} {x1 : Option Nat} {x2 : Int32} {x3 : Int32} {k8 : (Int32) → (AH) → Prop}  (hk8 : ∀ (x4 : Int32) (h : AH), k8 x4 h → VV l E X cX0_seekSongs RX0 "seekSongs" 7 r_X0_seekSongs (some .int) (vpi (fun (r : Int32) (h' : AH) => post r h')) h 0 0 8 [(0, va_rf (some b0)), (1, va_rf x1), (2, .int x2), (3, .int x3), (4, .int x4)] []) (x4 : Int32) (x5 : Option Nat) (s0 : Int32) (h : AH) (hw : w_X0_seekSongs_68 post k8 b0 x1 x2 x3 x4 x5 s0 h) : VV l E X cX0_seekSongs RX0 "seekSongs" 7 r_X0_seekSongs (some .int) (vpi (fun (r : Int32) (h' : AH) => post r h')) h 0 0 68 [(0, va_rf (some b0)), (1, va_rf x1), (2, .int x2), (3, .int x3), (4, .int x4), (5, va_rf x5)] [.int s0] := by
  refine v_iload_n (q := 3) dX0_seekSongs_68 rfl rfl ?_
  obtain ⟨hw_51, hw_52⟩ := hw
  refine v_if_ne (tgt := 76) dX0_seekSongs_69 (by decide) (fun c_49 => ?_) (fun c_50 => ?_)
  · have hw := hw_51 c_49
    refine v_iconst dX0_seekSongs_76 ic_0 ?_
    refine v_sub [0, 1, 2, 3, 4, 5] rfl ?_
    exact b_X0_seekSongs_77 hk8 x4 x5 (nI 0) s0 h hw
  · have hw := hw_52 c_50
    refine v_iconst dX0_seekSongs_72 ic_1 ?_
    refine v_goto (tgt := 77) dX0_seekSongs_73 (by decide) ?_
    refine v_sub [0, 1, 2, 3, 4, 5] rfl ?_
    exact b_X0_seekSongs_77 hk8 x4 x5 (nI 1) s0 h hw
theorem b_X0_seekSongs_8 {post : (Int32) → (AH) → Prop}   {b0 : Nat} {x1 : Option Nat} {x2 : Int32} {x3 : Int32}    : ∀ (n0 : Nat) (x4 : Int32) (h : AH), w_X0_seekSongs_8 post b0 x1 x2 x3 n0 x4 h → VV l E X cX0_seekSongs RX0 "seekSongs" 7 r_X0_seekSongs (some .int) (vpi (fun (r : Int32) (h' : AH) => post r h')) h 0 0 8 [(0, va_rf (some b0)), (1, va_rf x1), (2, .int x2), (3, .int x3), (4, .int x4)] [] := by
  intro n0
  induction n0 with
  | zero =>
    intro x4 h hw
    exact hw.elim
  | succ n0 ih =>
    intro x4 h hw
    refine v_iload (q := 4) dX0_seekSongs_8 rfl ?_
    refine v_aload_n (q := 0) dX0_seekSongs_10 rfl rfl ?_
    obtain ⟨fs_53, r_56, e_54, e_55, hw⟩ := hw
    refine v_get in_X0 (ci := 0) rfl 1 (Nat.le_of_ble_eq_true rfl) q319 rfl dX0_seekSongs_11 e_54 e_55 ?_
    obtain ⟨a_57, ea_57, hw⟩ := hw
    subst ea_57
    obtain ⟨fs_58, r_61, e_59, e_60, hw⟩ := hw
    refine v_getN in_X1 (ci := 1) rfl 3 (Nat.le_of_ble_eq_true rfl) q226 rfl dX0_seekSongs_14 e_59 e_60 ?_
    obtain ⟨a_62, ea_62, hw⟩ := hw
    subst ea_62
    obtain ⟨fs_107, e_108, hw⟩ := hw
    refine v_callV q413 q414 q415 q108 q416 (ci := 2) rfl e_108 n_J2_size ⟨Nat.le_of_ble_eq_true rfl, Nat.le_of_ble_eq_true rfl⟩ [] [.int x4] (met_J2_size hw) rfl (Nat.le_of_ble_eq_true rfl) ⟨Nat.le_refl _, Nat.le_refl _⟩ dX0_seekSongs_17 rfl (v_ki (fun z_63 h1 hv => ?_))
    clear hw
    obtain ⟨e9, hw⟩ := hv
    refine v_heap e9 ?_
    clear e9
    obtain ⟨hw_66, hw_67⟩ := hw
    refine v_icmp_ge (tgt := 154) dX0_seekSongs_20 (by decide) (fun c_64 => ?_) (fun c_65 => ?_)
    · have hw := hw_66 c_64
      refine v_aload_n (q := 0) dX0_seekSongs_154 rfl rfl ?_
      obtain ⟨fs_68, z_71, e_69, e_70, hw⟩ := hw
      refine v_get in_X0 (ci := 0) rfl 11 (Nat.le_of_ble_eq_true rfl) q330 rfl dX0_seekSongs_155 e_69 e_70 ?_
      exact v_iret dX0_seekSongs_158 rfl ⟨_, rfl, hw⟩
    · have hw := hw_67 c_65
      refine v_aload_n (q := 0) dX0_seekSongs_23 rfl rfl ?_
      obtain ⟨fs_72, r_75, e_73, e_74, hw⟩ := hw
      refine v_get in_X0 (ci := 0) rfl 1 (Nat.le_of_ble_eq_true rfl) q319 rfl dX0_seekSongs_24 e_73 e_74 ?_
      obtain ⟨a_76, ea_76, hw⟩ := hw
      subst ea_76
      obtain ⟨fs_77, r_80, e_78, e_79, hw⟩ := hw
      refine v_getN in_X1 (ci := 1) rfl 3 (Nat.le_of_ble_eq_true rfl) q226 rfl dX0_seekSongs_27 e_78 e_79 ?_
      refine v_iload (q := 4) dX0_seekSongs_30 rfl ?_
      obtain ⟨a_81, ea_81, hw⟩ := hw
      subst ea_81
      obtain ⟨fs_105, e_106, hw⟩ := hw
      refine v_callV q577 q578 q579 q108 q580 (ci := 2) rfl e_106 n_J2_get ⟨Nat.le_of_ble_eq_true rfl, Nat.le_of_ble_eq_true rfl⟩ [.int x4] [] (met_J2_get hw) rfl (Nat.zero_le _) ⟨Nat.le_refl _, Nat.le_refl _⟩ dX0_seekSongs_32 rfl (v_kq (fun r_82 h1 hv => ?_))
      clear hw
      obtain ⟨e9, hw⟩ := hv
      refine v_heap e9 ?_
      clear e9
      obtain ⟨a_83, ea_83, hw⟩ := hw
      subst ea_83
      obtain ⟨fs_84, e_85, hw⟩ := hw
      refine v_cast (ci := 8) rfl q417 dX0_seekSongs_35 e_85 ?_
      refine v_astore (lv1 := [(5, va_rf (some a_83)), (0, va_rf (some b0)), (1, va_rf x1), (2, .int x2), (3, .int x3), (4, .int x4)]) dX0_seekSongs_38 (Nat.le_of_ble_eq_true rfl) rfl ?_
      refine v_aload_n (q := 1) dX0_seekSongs_40 rfl rfl ?_
      refine v_aload (q := 0) dX0_seekSongs_41 rfl ?_
      obtain ⟨fs_103, e_104, hw⟩ := hw
      refine v_callV q1015 q1017 qs33 q104 q1018 (ci := 0) rfl e_104 n_X0_isEarly ⟨Nat.le_of_ble_eq_true rfl, Nat.le_of_ble_eq_true rfl⟩ [va_rf (some a_83)] [] (met_X0_isEarly hw) rfl (Nat.zero_le _) ⟨Nat.le_refl _, Nat.le_refl _⟩ dX0_seekSongs_43 rfl (v_ki (fun z_86 h1 hv => ?_))
      clear hw
      obtain ⟨e9, hw⟩ := hv
      refine v_heap e9 ?_
      clear e9
      obtain ⟨hw_89, hw_90⟩ := hw
      refine v_if_eq (tgt := 148) dX0_seekSongs_46 (by decide) (fun c_87 => ?_) (fun c_88 => ?_)
      · have hw := hw_89 c_87
        refine v_sub [1, 2, 3, 4, 5] rfl ?_
        exact b_X0_seekSongs_148 (fun q0 q1 z => ih q0 q1 z) x4 h hw
      · have hw := hw_90 c_88
        refine v_iload_n (q := 4) dX0_seekSongs_49 rfl rfl ?_
        refine v_iconst dX0_seekSongs_50 ic_2 ?_
        obtain ⟨hw_93, hw_94⟩ := hw
        refine v_icmp_ge (tgt := 83) dX0_seekSongs_51 (by decide) (fun c_91 => ?_) (fun c_92 => ?_)
        · have hw := hw_93 c_91
          refine v_sub [1, 2, 3, 4, 5, 0] rfl ?_
          exact b_X0_seekSongs_83 (fun q0 q1 z => ih q0 q1 z) x4 (some a_83) h hw
        · have hw := hw_94 c_92
          refine v_aload (q := 0) dX0_seekSongs_54 rfl ?_
          obtain ⟨fs_95, z_98, e_96, e_97, hw⟩ := hw
          refine v_getN in_X7 (ci := 8) rfl 1 (Nat.le_of_ble_eq_true rfl) q428 rfl dX0_seekSongs_56 e_96 e_97 ?_
          refine v_iload_n (q := 3) dX0_seekSongs_59 rfl rfl ?_
          obtain ⟨hw_101, hw_102⟩ := hw
          refine v_icmp_ne (tgt := 67) dX0_seekSongs_60 (by decide) (fun c_99 => ?_) (fun c_100 => ?_)
          · have hw := hw_101 c_99
            refine v_iconst dX0_seekSongs_67 ic_0 ?_
            refine v_sub [1, 2, 3, 4, 5, 0] rfl ?_
            exact b_X0_seekSongs_68 (fun q0 q1 z => ih q0 q1 z) x4 (some a_83) (nI 0) h hw
          · have hw := hw_102 c_100
            refine v_iconst dX0_seekSongs_63 ic_1 ?_
            refine v_goto (tgt := 68) dX0_seekSongs_64 (by decide) ?_
            refine v_sub [1, 2, 3, 4, 5, 0] rfl ?_
            exact b_X0_seekSongs_68 (fun q0 q1 z => ih q0 q1 z) x4 (some a_83) (nI 1) h hw
theorem e_X0_seekSongs {post : (Int32) → (AH) → Prop}   {b0 : Nat} {x1 : Option Nat} {x2 : Int32} {x3 : Int32} {h : AH}  (hw : w_X0_seekSongs post  b0 x1 x2 x3 h) : VV l E X cX0_seekSongs RX0 "seekSongs" 7 r_X0_seekSongs (some .int) (vpi (fun (r : Int32) (h' : AH) => post r h')) h 0 0 0 [(0, va_rf (some b0)), (1, va_rf x1), (2, .int x2), (3, .int x3)] [] := by
  refine v_aload_n (q := 0) dX0_seekSongs_0 rfl rfl ?_
  refine v_iconst dX0_seekSongs_1 ic_m1 ?_
  obtain ⟨fs_109, e_110, e_111, hw⟩ := hw
  obtain ⟨h_112, eh_112⟩ : ∃ z9 : AH, z9 = va_up h b0 (some (.inr (0, fs_109.set 11 (.int (-1))))) := ⟨_, rfl⟩
  replace hw := hw h_112 eh_112
  refine v_put in_X0 (ci := 0) rfl 11 (Nat.le_of_ble_eq_true rfl) tyX0 tyX0_ok nmX0 q330 rfl rfl rfl rfl rfl dX0_seekSongs_2 e_110 e_111 ?_
  rw [← eh_112]
  refine v_iconst dX0_seekSongs_5 ic_0 ?_
  refine v_istore (lv1 := [(4, .int (nI 0)), (0, va_rf (some b0)), (1, va_rf x1), (2, .int x2), (3, .int x3)]) dX0_seekSongs_6 (Nat.le_of_ble_eq_true rfl) rfl ?_
  obtain ⟨n_113, hw⟩ := hw
  refine v_sub [1, 2, 3, 4, 0] rfl ?_
  exact b_X0_seekSongs_8 n_113 (nI 0) h_112 hw
theorem met_X0_seekSongs {post : (Int32) → (AH) → Prop}   {b0 : Nat} {x1 : Option Nat} {x2 : Int32} {x3 : Int32} {h : AH}  (hw : w_X0_seekSongs post  b0 x1 x2 x3 h) : Mt l E yX0_seekSongs (ws_ yX0_seekSongs cX0_seekSongs 7 (some .int)) r_X0_seekSongs [va_rf (some b0), va_rf x1, .int x2, .int x3] h (vpi (fun (r : Int32) (h' : AH) => post r h')) := v_entry (by decide +kernel) (by cases x1 <;> exact (Nat.le_of_ble_eq_true rfl)) (by cases x1 <;> exact rfl) (fun _ => e_X0_seekSongs hw)
/-! X18_init -/
abbrev r_X18_init : Room := { frames := 2, cells := 0, slots := 0, locals := 42 }
theorem n_X18_init : vdn yX18_init 2 := ⟨by decide +kernel, by decide +kernel, by decide +kernel⟩
def w_X18_init (post : (AH) → Prop) (b0 : Nat) (x1 : Int32) (x2 : Int32) (h : AH) : Prop :=
 (w_X17_init_X18 (fun (h_1 : AH) => (post h_1)) b0 x1 x2 h)
theorem e_X18_init {post : (AH) → Prop}   {b0 : Nat} {x1 : Int32} {x2 : Int32} {h : AH}  (hw : w_X18_init post  b0 x1 x2 h) : VV l E X cX18_init RX18 "<init>" 3 r_X18_init none (vpv (fun (h' : AH) => post h')) h 0 0 0 [(0, va_rf (some b0)), (1, .int x1), (2, .int x2)] [] := by
  refine v_aload_n (q := 0) dX18_init_0 rfl rfl ?_
  refine v_iload_n (q := 1) dX18_init_1 rfl rfl ?_
  refine v_iload_n (q := 2) dX18_init_2 rfl rfl ?_
  refine v_callI q1036 q1037 q133 q1038 rfl n_X17_init_X18 ⟨Nat.le_of_ble_eq_true rfl, Nat.le_of_ble_eq_true rfl⟩ [.int x1, .int x2] [] (met_X17_init_X18 hw) rfl (Nat.zero_le _) ⟨Nat.le_refl _, Nat.le_refl _⟩ dX18_init_3 rfl (v_kv (fun h_1 hv => ?_))
  clear hw
  have hw := hv
  clear hv
  exact v_vret dX18_init_6 rfl ⟨rfl, hw⟩
theorem met_X18_init {post : (AH) → Prop}   {b0 : Nat} {x1 : Int32} {x2 : Int32} {h : AH}  (hw : w_X18_init post  b0 x1 x2 h) : Mt l E yX18_init (ws_ yX18_init cX18_init 3 none) r_X18_init [va_rf (some b0), .int x1, .int x2] h (vpv (fun (h' : AH) => post h')) := v_entry (by decide +kernel) (Nat.le_of_ble_eq_true rfl) rfl (fun _ => e_X18_init hw)
/-! X19_init -/
abbrev r_X19_init : Room := { frames := 3, cells := 0, slots := 0, locals := 64 }
theorem n_X19_init : vdn yX19_init 2 := ⟨by decide +kernel, by decide +kernel, by decide +kernel⟩
def w_X19_init (post : (AH) → Prop) (b0 : Nat) (x1 : Int32) (x2 : Int32) (h : AH) : Prop :=
 (w_X18_init_X19 (fun (h_1 : AH) => (post h_1)) b0 x1 x2 h)
theorem e_X19_init {post : (AH) → Prop}   {b0 : Nat} {x1 : Int32} {x2 : Int32} {h : AH}  (hw : w_X19_init post  b0 x1 x2 h) : VV l E X cX19_init RX19 "<init>" 3 r_X19_init none (vpv (fun (h' : AH) => post h')) h 0 0 0 [(0, va_rf (some b0)), (1, .int x1), (2, .int x2)] [] := by
  refine v_aload_n (q := 0) dX19_init_0 rfl rfl ?_
  refine v_iload_n (q := 1) dX19_init_1 rfl rfl ?_
  refine v_iload_n (q := 2) dX19_init_2 rfl rfl ?_
  refine v_callI q1049 q1034 q134 q1035 rfl n_X18_init_X19 ⟨Nat.le_of_ble_eq_true rfl, Nat.le_of_ble_eq_true rfl⟩ [.int x1, .int x2] [] (met_X18_init_X19 hw) rfl (Nat.zero_le _) ⟨Nat.le_refl _, Nat.le_refl _⟩ dX19_init_3 rfl (v_kv (fun h_1 hv => ?_))
  clear hw
  have hw := hv
  clear hv
  exact v_vret dX19_init_6 rfl ⟨rfl, hw⟩
theorem met_X19_init {post : (AH) → Prop}   {b0 : Nat} {x1 : Int32} {x2 : Int32} {h : AH}  (hw : w_X19_init post  b0 x1 x2 h) : Mt l E yX19_init (ws_ yX19_init cX19_init 3 none) r_X19_init [va_rf (some b0), .int x1, .int x2] h (vpv (fun (h' : AH) => post h')) := v_entry (by decide +kernel) (Nat.le_of_ble_eq_true rfl) rfl (fun _ => e_X19_init hw)
/-! X20_init -/
abbrev r_X20_init : Room := { frames := 3, cells := 0, slots := 0, locals := 64 }
theorem n_X20_init : vdn yX20_init 2 := ⟨by decide +kernel, by decide +kernel, by decide +kernel⟩
def w_X20_init (post : (AH) → Prop) (b0 : Nat) (x1 : Int32) (x2 : Int32) (h : AH) : Prop :=
 (w_X18_init_X20 (fun (h_1 : AH) => (post h_1)) b0 x1 x2 h)
theorem e_X20_init {post : (AH) → Prop}   {b0 : Nat} {x1 : Int32} {x2 : Int32} {h : AH}  (hw : w_X20_init post  b0 x1 x2 h) : VV l E X cX20_init RX20 "<init>" 3 r_X20_init none (vpv (fun (h' : AH) => post h')) h 0 0 0 [(0, va_rf (some b0)), (1, .int x1), (2, .int x2)] [] := by
  refine v_aload_n (q := 0) dX20_init_0 rfl rfl ?_
  refine v_iload_n (q := 1) dX20_init_1 rfl rfl ?_
  refine v_iload_n (q := 2) dX20_init_2 rfl rfl ?_
  refine v_callI q1057 q1034 q134 q1035 rfl n_X18_init_X20 ⟨Nat.le_of_ble_eq_true rfl, Nat.le_of_ble_eq_true rfl⟩ [.int x1, .int x2] [] (met_X18_init_X20 hw) rfl (Nat.zero_le _) ⟨Nat.le_refl _, Nat.le_refl _⟩ dX20_init_3 rfl (v_kv (fun h_1 hv => ?_))
  clear hw
  have hw := hv
  clear hv
  exact v_vret dX20_init_6 rfl ⟨rfl, hw⟩
theorem met_X20_init {post : (AH) → Prop}   {b0 : Nat} {x1 : Int32} {x2 : Int32} {h : AH}  (hw : w_X20_init post  b0 x1 x2 h) : Mt l E yX20_init (ws_ yX20_init cX20_init 3 none) r_X20_init [va_rf (some b0), .int x1, .int x2] h (vpv (fun (h' : AH) => post h')) := v_entry (by decide +kernel) (Nat.le_of_ble_eq_true rfl) rfl (fun _ => e_X20_init hw)
/-! X0_seekBooks -/
abbrev r_X0_seekBooks : Room := { frames := 3, cells := 0, slots := 0, locals := 76 }
theorem n_X0_seekBooks : vdn yX0_seekBooks 1 := ⟨by decide +kernel, by decide +kernel, by decide +kernel⟩
def w_X0_seekBooks_23 (post : (Int32) → (AH) → Prop) (k7 : (Int32) → (AH) → Prop) (b0 : Nat) (x1 : Option Nat) : Nat → (Int32) → (Int32) → (AH) → Prop
 | 0, _, _, _ => False
 | n0 + 1, x2, x3, h =>
 (∃ (fs_1 : List Value) (r_4 : Option Nat), h b0 = some (.inr (0, fs_1)) ∧ fs_1[1]? = some (va_rf r_4) ∧ (∃ a_5 : Nat, r_4 = some a_5 ∧ (∃ (fs_6 : List Value) (r_9 : Option Nat), h a_5 = some (.inr (1, fs_6)) ∧ fs_6[4]? = some (va_rf r_9) ∧ (∃ a_10 : Nat, r_9 = some a_10 ∧ (∃ fs_59 : List Value, h a_10 = some (.inr (2, fs_59)) ∧ (w_J2_get (fun (r_11 : Option Nat) => (∃ a_12 : Nat, r_11 = some a_12 ∧ (∃ fs_13 : List Value, h a_12 = some (.inr (8, fs_13)) ∧ (∃ (fs_15 : List Value) (r_18 : Option Nat), h a_12 = some (.inr (8, fs_15)) ∧ fs_15[4]? = some (va_rf r_18) ∧ (∃ a_19 : Nat, r_18 = some a_19 ∧ (∃ fs_57 : List Value, h a_19 = some (.inr (2, fs_57)) ∧ (w_J2_size (fun (z_20 : Int32) => ((z_20 ≤ x3 → (∀ z_25 : Int32, z_25 = x2 + (nI 1) → (k7 z_25 h))) ∧ (¬ z_20 ≤ x3 → (∃ (fs_26 : List Value) (r_29 : Option Nat), h b0 = some (.inr (0, fs_26)) ∧ fs_26[1]? = some (va_rf r_29) ∧ (∃ a_30 : Nat, r_29 = some a_30 ∧ (∃ (fs_31 : List Value) (r_34 : Option Nat), h a_30 = some (.inr (1, fs_31)) ∧ fs_31[4]? = some (va_rf r_34) ∧ (∃ a_35 : Nat, r_34 = some a_35 ∧ (∃ fs_55 : List Value, h a_35 = some (.inr (2, fs_55)) ∧ (w_J2_get (fun (r_36 : Option Nat) => (∃ a_37 : Nat, r_36 = some a_37 ∧ (∃ fs_38 : List Value, h a_37 = some (.inr (8, fs_38)) ∧ (∃ (fs_40 : List Value) (r_43 : Option Nat), h a_37 = some (.inr (8, fs_40)) ∧ fs_40[4]? = some (va_rf r_43) ∧ (∃ a_44 : Nat, r_43 = some a_44 ∧ (∃ fs_53 : List Value, h a_44 = some (.inr (2, fs_53)) ∧ (w_J2_get (fun (r_45 : Option Nat) => (∃ a_46 : Nat, r_45 = some a_46 ∧ (∃ fs_47 : List Value, h a_46 = some (.inr (9, fs_47)) ∧ (∃ fs_51 : List Value, h b0 = some (.inr (0, fs_51)) ∧ (w_X0_seeks (fun (h_49 : AH) => (∀ z_50 : Int32, z_50 = x3 + (nI 1) → (w_X0_seekBooks_23 post k7 b0 x1 n0 x2 z_50 h_49))) b0 x1 (some a_46) x2 x3 h))))) a_44 x3 h))))))) a_35 x2 h))))))))) a_19 h))))))) a_10 x2 h))))))
def w_X0_seekBooks_7 (post : (Int32) → (AH) → Prop) (b0 : Nat) (x1 : Option Nat) : Nat → (Int32) → (AH) → Prop
 | 0, _, _ => False
 | n0 + 1, x2, h =>
 (∃ (fs_61 : List Value) (r_64 : Option Nat), h b0 = some (.inr (0, fs_61)) ∧ fs_61[1]? = some (va_rf r_64) ∧ (∃ a_65 : Nat, r_64 = some a_65 ∧ (∃ (fs_66 : List Value) (r_69 : Option Nat), h a_65 = some (.inr (1, fs_66)) ∧ fs_66[4]? = some (va_rf r_69) ∧ (∃ a_70 : Nat, r_69 = some a_70 ∧ (∃ fs_81 : List Value, h a_70 = some (.inr (2, fs_81)) ∧ (w_J2_size (fun (z_71 : Int32) => ((z_71 ≤ x2 → (∃ (fs_76 : List Value) (z_79 : Int32), h b0 = some (.inr (0, fs_76)) ∧ fs_76[11]? = some (.int z_79) ∧ (post z_79 h))) ∧ (¬ z_71 ≤ x2 → (∃ n1 : Nat, (w_X0_seekBooks_23 post (fun (q0 : Int32) (q1 : AH) => w_X0_seekBooks_7 post b0 x1 n0 q0 q1) b0 x1 n1 x2 (nI 0) h))))) a_70 h))))))
def w_X0_seekBooks (post : (Int32) → (AH) → Prop) (b0 : Nat) (x1 : Option Nat) (h : AH) : Prop :=
 (∃ fs_83 : List Value, h b0 = some (.inr (0, fs_83)) ∧ 11 < fs_83.length ∧ ∀ h_86 : AH, h_86 = va_up h b0 (some (.inr (0, fs_83.set 11 (.int (-1))))) → (∃ n1 : Nat, (w_X0_seekBooks_7 post b0 x1 n1 (nI 0) h_86)))
theorem b_X0_seekBooks_23 {post : (Int32) → (AH) → Prop}   {b0 : Nat} {x1 : Option Nat} {k7 : (Int32) → (AH) → Prop}  (hk7 : ∀ (x2 : Int32) (h : AH), k7 x2 h → VV l E X cX0_seekBooks RX0 "seekBooks" 4 r_X0_seekBooks (some .int) (vpi (fun (r : Int32) (h' : AH) => post r h')) h 0 0 7 [(0, va_rf (some b0)), (1, va_rf x1), (2, .int x2)] []) : ∀ (n0 : Nat) (x2 : Int32) (x3 : Int32) (h : AH), w_X0_seekBooks_23 post k7 b0 x1 n0 x2 x3 h → VV l E X cX0_seekBooks RX0 "seekBooks" 4 r_X0_seekBooks (some .int) (vpi (fun (r : Int32) (h' : AH) => post r h')) h 0 0 23 [(0, va_rf (some b0)), (1, va_rf x1), (2, .int x2), (3, .int x3)] [] := by
  intro n0
  induction n0 with
  | zero =>
    intro x2 x3 h hw
    exact hw.elim
  | succ n0 ih =>
    intro x2 x3 h hw
    refine v_iload_n (q := 3) dX0_seekBooks_23 rfl rfl ?_
    refine v_aload_n (q := 0) dX0_seekBooks_24 rfl rfl ?_
    obtain ⟨fs_1, r_4, e_2, e_3, hw⟩ := hw
    refine v_get in_X0 (ci := 0) rfl 1 (Nat.le_of_ble_eq_true rfl) q319 rfl dX0_seekBooks_25 e_2 e_3 ?_
    obtain ⟨a_5, ea_5, hw⟩ := hw
    subst ea_5
    obtain ⟨fs_6, r_9, e_7, e_8, hw⟩ := hw
    refine v_getN in_X1 (ci := 1) rfl 4 (Nat.le_of_ble_eq_true rfl) q228 rfl dX0_seekBooks_28 e_7 e_8 ?_
    refine v_iload_n (q := 2) dX0_seekBooks_31 rfl rfl ?_
    obtain ⟨a_10, ea_10, hw⟩ := hw
    subst ea_10
    obtain ⟨fs_59, e_60, hw⟩ := hw
    refine v_callV q577 q578 q579 q108 q580 (ci := 2) rfl e_60 n_J2_get ⟨Nat.le_of_ble_eq_true rfl, Nat.le_of_ble_eq_true rfl⟩ [.int x2] [.int x3] (met_J2_get hw) rfl (Nat.le_of_ble_eq_true rfl) ⟨Nat.le_refl _, Nat.le_refl _⟩ dX0_seekBooks_32 rfl (v_kq (fun r_11 h1 hv => ?_))
    clear hw
    obtain ⟨e9, hw⟩ := hv
    refine v_heap e9 ?_
    clear e9
    obtain ⟨a_12, ea_12, hw⟩ := hw
    subst ea_12
    obtain ⟨fs_13, e_14, hw⟩ := hw
    refine v_cast (ci := 8) rfl q417 dX0_seekBooks_35 e_14 ?_
    obtain ⟨fs_15, r_18, e_16, e_17, hw⟩ := hw
    refine v_getN in_X7 (ci := 8) rfl 4 (Nat.le_of_ble_eq_true rfl) q433 rfl dX0_seekBooks_38 e_16 e_17 ?_
    obtain ⟨a_19, ea_19, hw⟩ := hw
    subst ea_19
    obtain ⟨fs_57, e_58, hw⟩ := hw
    refine v_callV q413 q414 q415 q108 q416 (ci := 2) rfl e_58 n_J2_size ⟨Nat.le_of_ble_eq_true rfl, Nat.le_of_ble_eq_true rfl⟩ [] [.int x3] (met_J2_size hw) rfl (Nat.le_of_ble_eq_true rfl) ⟨Nat.le_refl _, Nat.le_refl _⟩ dX0_seekBooks_41 rfl (v_ki (fun z_20 h1 hv => ?_))
    clear hw
    obtain ⟨e9, hw⟩ := hv
    refine v_heap e9 ?_
    clear e9
    obtain ⟨hw_23, hw_24⟩ := hw
    refine v_icmp_ge (tgt := 84) dX0_seekBooks_44 (by decide) (fun c_21 => ?_) (fun c_22 => ?_)
    · have hw := hw_23 c_21
      obtain ⟨z_25, e_25⟩ : ∃ z9 : Int32, z9 = x2 + (nI 1) := ⟨_, rfl⟩
      replace hw := hw z_25 e_25
      refine v_iinc (q := 2) (v := z_25) (lv1 := [(2, .int z_25), (0, va_rf (some b0)), (1, va_rf x1), (3, .int x3)]) dX0_seekBooks_84 rfl (by rw [e_25, ic_1]) (Nat.le_of_ble_eq_true rfl) (by cases x1 <;> rfl) ?_
      refine v_goto (tgt := 7) dX0_seekBooks_87 (by decide) ?_
      refine v_sub [1, 2, 0] rfl ?_
      exact hk7 z_25 h hw
    · have hw := hw_24 c_22
      refine v_aload_n (q := 0) dX0_seekBooks_47 rfl rfl ?_
      refine v_aload_n (q := 1) dX0_seekBooks_48 rfl rfl ?_
      refine v_aload_n (q := 0) dX0_seekBooks_49 rfl rfl ?_
      obtain ⟨fs_26, r_29, e_27, e_28, hw⟩ := hw
      refine v_get in_X0 (ci := 0) rfl 1 (Nat.le_of_ble_eq_true rfl) q319 rfl dX0_seekBooks_50 e_27 e_28 ?_
      obtain ⟨a_30, ea_30, hw⟩ := hw
      subst ea_30
      obtain ⟨fs_31, r_34, e_32, e_33, hw⟩ := hw
      refine v_getN in_X1 (ci := 1) rfl 4 (Nat.le_of_ble_eq_true rfl) q228 rfl dX0_seekBooks_53 e_32 e_33 ?_
      refine v_iload_n (q := 2) dX0_seekBooks_56 rfl rfl ?_
      obtain ⟨a_35, ea_35, hw⟩ := hw
      subst ea_35
      obtain ⟨fs_55, e_56, hw⟩ := hw
      refine v_callV q577 q578 q579 q108 q580 (ci := 2) rfl e_56 n_J2_get ⟨Nat.le_of_ble_eq_true rfl, Nat.le_of_ble_eq_true rfl⟩ [.int x2] [va_rf x1, va_rf (some b0)] (met_J2_get hw) rfl (by simp only [List.map_cons, List.map_nil, List.sum_cons, List.sum_nil, v_rf1, v_cI, v_cJ]; decide) ⟨Nat.le_refl _, Nat.le_refl _⟩ dX0_seekBooks_57 rfl (v_kq (fun r_36 h1 hv => ?_))
      clear hw
      obtain ⟨e9, hw⟩ := hv
      refine v_heap e9 ?_
      clear e9
      obtain ⟨a_37, ea_37, hw⟩ := hw
      subst ea_37
      obtain ⟨fs_38, e_39, hw⟩ := hw
      refine v_cast (ci := 8) rfl q417 dX0_seekBooks_60 e_39 ?_
      obtain ⟨fs_40, r_43, e_41, e_42, hw⟩ := hw
      refine v_getN in_X7 (ci := 8) rfl 4 (Nat.le_of_ble_eq_true rfl) q433 rfl dX0_seekBooks_63 e_41 e_42 ?_
      refine v_iload_n (q := 3) dX0_seekBooks_66 rfl rfl ?_
      obtain ⟨a_44, ea_44, hw⟩ := hw
      subst ea_44
      obtain ⟨fs_53, e_54, hw⟩ := hw
      refine v_callV q577 q578 q579 q108 q580 (ci := 2) rfl e_54 n_J2_get ⟨Nat.le_of_ble_eq_true rfl, Nat.le_of_ble_eq_true rfl⟩ [.int x3] [va_rf x1, va_rf (some b0)] (met_J2_get hw) rfl (by simp only [List.map_cons, List.map_nil, List.sum_cons, List.sum_nil, v_rf1, v_cI, v_cJ]; decide) ⟨Nat.le_refl _, Nat.le_refl _⟩ dX0_seekBooks_67 rfl (v_kq (fun r_45 h1 hv => ?_))
      clear hw
      obtain ⟨e9, hw⟩ := hv
      refine v_heap e9 ?_
      clear e9
      obtain ⟨a_46, ea_46, hw⟩ := hw
      subst ea_46
      obtain ⟨fs_47, e_48, hw⟩ := hw
      refine v_cast (ci := 9) rfl q304 dX0_seekBooks_70 e_48 ?_
      refine v_iload_n (q := 2) dX0_seekBooks_73 rfl rfl ?_
      refine v_iload_n (q := 3) dX0_seekBooks_74 rfl rfl ?_
      obtain ⟨fs_51, e_52, hw⟩ := hw
      refine v_callV q1027 q1029 qs36 q104 q1030 (ci := 0) rfl e_52 n_X0_seeks ⟨Nat.le_of_ble_eq_true rfl, Nat.le_of_ble_eq_true rfl⟩ [va_rf x1, va_rf (some a_46), .int x2, .int x3] [] (met_X0_seeks hw) rfl (Nat.zero_le _) ⟨Nat.le_refl _, Nat.le_refl _⟩ dX0_seekBooks_75 rfl (v_kv (fun h_49 hv => ?_))
      clear hw
      have hw := hv
      clear hv
      obtain ⟨z_50, e_50⟩ : ∃ z9 : Int32, z9 = x3 + (nI 1) := ⟨_, rfl⟩
      replace hw := hw z_50 e_50
      refine v_iinc (q := 3) (v := z_50) (lv1 := [(3, .int z_50), (0, va_rf (some b0)), (1, va_rf x1), (2, .int x2)]) dX0_seekBooks_78 rfl (by rw [e_50, ic_1]) (Nat.le_of_ble_eq_true rfl) rfl ?_
      refine v_goto (tgt := 23) dX0_seekBooks_81 (by decide) ?_
      refine v_sub [1, 2, 3, 0] rfl ?_
      exact ih x2 z_50 h_49 hw
theorem b_X0_seekBooks_7 {post : (Int32) → (AH) → Prop}   {b0 : Nat} {x1 : Option Nat}    : ∀ (n0 : Nat) (x2 : Int32) (h : AH), w_X0_seekBooks_7 post b0 x1 n0 x2 h → VV l E X cX0_seekBooks RX0 "seekBooks" 4 r_X0_seekBooks (some .int) (vpi (fun (r : Int32) (h' : AH) => post r h')) h 0 0 7 [(0, va_rf (some b0)), (1, va_rf x1), (2, .int x2)] [] := by
  intro n0
  induction n0 with
  | zero =>
    intro x2 h hw
    exact hw.elim
  | succ n0 ih =>
    intro x2 h hw
    refine v_iload_n (q := 2) dX0_seekBooks_7 rfl rfl ?_
    refine v_aload_n (q := 0) dX0_seekBooks_8 rfl rfl ?_
    obtain ⟨fs_61, r_64, e_62, e_63, hw⟩ := hw
    refine v_get in_X0 (ci := 0) rfl 1 (Nat.le_of_ble_eq_true rfl) q319 rfl dX0_seekBooks_9 e_62 e_63 ?_
    obtain ⟨a_65, ea_65, hw⟩ := hw
    subst ea_65
    obtain ⟨fs_66, r_69, e_67, e_68, hw⟩ := hw
    refine v_getN in_X1 (ci := 1) rfl 4 (Nat.le_of_ble_eq_true rfl) q228 rfl dX0_seekBooks_12 e_67 e_68 ?_
    obtain ⟨a_70, ea_70, hw⟩ := hw
    subst ea_70
    obtain ⟨fs_81, e_82, hw⟩ := hw
    refine v_callV q413 q414 q415 q108 q416 (ci := 2) rfl e_82 n_J2_size ⟨Nat.le_of_ble_eq_true rfl, Nat.le_of_ble_eq_true rfl⟩ [] [.int x2] (met_J2_size hw) rfl (Nat.le_of_ble_eq_true rfl) ⟨Nat.le_refl _, Nat.le_refl _⟩ dX0_seekBooks_15 rfl (v_ki (fun z_71 h1 hv => ?_))
    clear hw
    obtain ⟨e9, hw⟩ := hv
    refine v_heap e9 ?_
    clear e9
    obtain ⟨hw_74, hw_75⟩ := hw
    refine v_icmp_ge (tgt := 90) dX0_seekBooks_18 (by decide) (fun c_72 => ?_) (fun c_73 => ?_)
    · have hw := hw_74 c_72
      refine v_aload_n (q := 0) dX0_seekBooks_90 rfl rfl ?_
      obtain ⟨fs_76, z_79, e_77, e_78, hw⟩ := hw
      refine v_get in_X0 (ci := 0) rfl 11 (Nat.le_of_ble_eq_true rfl) q330 rfl dX0_seekBooks_91 e_77 e_78 ?_
      exact v_iret dX0_seekBooks_94 rfl ⟨_, rfl, hw⟩
    · have hw := hw_75 c_73
      refine v_iconst dX0_seekBooks_21 ic_0 ?_
      refine v_istore_n (lv1 := [(3, .int (nI 0)), (0, va_rf (some b0)), (1, va_rf x1), (2, .int x2)]) dX0_seekBooks_22 rfl (Nat.le_of_ble_eq_true rfl) rfl ?_
      obtain ⟨n_80, hw⟩ := hw
      refine v_sub [1, 2, 3, 0] rfl ?_
      exact b_X0_seekBooks_23 (fun q0 q1 z => ih q0 q1 z) n_80 x2 (nI 0) h hw
theorem e_X0_seekBooks {post : (Int32) → (AH) → Prop}   {b0 : Nat} {x1 : Option Nat} {h : AH}  (hw : w_X0_seekBooks post  b0 x1 h) : VV l E X cX0_seekBooks RX0 "seekBooks" 4 r_X0_seekBooks (some .int) (vpi (fun (r : Int32) (h' : AH) => post r h')) h 0 0 0 [(0, va_rf (some b0)), (1, va_rf x1)] [] := by
  refine v_aload_n (q := 0) dX0_seekBooks_0 rfl rfl ?_
  refine v_iconst dX0_seekBooks_1 ic_m1 ?_
  obtain ⟨fs_83, e_84, e_85, hw⟩ := hw
  obtain ⟨h_86, eh_86⟩ : ∃ z9 : AH, z9 = va_up h b0 (some (.inr (0, fs_83.set 11 (.int (-1))))) := ⟨_, rfl⟩
  replace hw := hw h_86 eh_86
  refine v_put in_X0 (ci := 0) rfl 11 (Nat.le_of_ble_eq_true rfl) tyX0 tyX0_ok nmX0 q330 rfl rfl rfl rfl rfl dX0_seekBooks_2 e_84 e_85 ?_
  rw [← eh_86]
  refine v_iconst dX0_seekBooks_5 ic_0 ?_
  refine v_istore_n (lv1 := [(2, .int (nI 0)), (0, va_rf (some b0)), (1, va_rf x1)]) dX0_seekBooks_6 rfl (Nat.le_of_ble_eq_true rfl) (by cases x1 <;> rfl) ?_
  obtain ⟨n_87, hw⟩ := hw
  refine v_sub [1, 2, 0] rfl ?_
  exact b_X0_seekBooks_7 n_87 (nI 0) h_86 hw
theorem met_X0_seekBooks {post : (Int32) → (AH) → Prop}   {b0 : Nat} {x1 : Option Nat} {h : AH}  (hw : w_X0_seekBooks post  b0 x1 h) : Mt l E yX0_seekBooks (ws_ yX0_seekBooks cX0_seekBooks 4 (some .int)) r_X0_seekBooks [va_rf (some b0), va_rf x1] h (vpi (fun (r : Int32) (h' : AH) => post r h')) := v_entry (by decide +kernel) (by cases x1 <;> exact (Nat.le_of_ble_eq_true rfl)) (by cases x1 <;> exact rfl) (fun _ => e_X0_seekBooks hw)
/-! X21_init -/
abbrev r_X21_init : Room := { frames := 2, cells := 0, slots := 0, locals := 42 }
theorem n_X21_init : vdn yX21_init 2 := ⟨by decide +kernel, by decide +kernel, by decide +kernel⟩
def w_X21_init (post : (AH) → Prop) (b0 : Nat) (x1 : Int32) (x2 : Int32) (h : AH) : Prop :=
 (w_X17_init_X21 (fun (h_1 : AH) => (post h_1)) b0 x1 x2 h)
theorem e_X21_init {post : (AH) → Prop}   {b0 : Nat} {x1 : Int32} {x2 : Int32} {h : AH}  (hw : w_X21_init post  b0 x1 x2 h) : VV l E X cX21_init RX21 "<init>" 3 r_X21_init none (vpv (fun (h' : AH) => post h')) h 0 0 0 [(0, va_rf (some b0)), (1, .int x1), (2, .int x2)] [] := by
  refine v_aload_n (q := 0) dX21_init_0 rfl rfl ?_
  refine v_iload_n (q := 1) dX21_init_1 rfl rfl ?_
  refine v_iload_n (q := 2) dX21_init_2 rfl rfl ?_
  refine v_callI q1069 q1037 q133 q1038 rfl n_X17_init_X21 ⟨Nat.le_of_ble_eq_true rfl, Nat.le_of_ble_eq_true rfl⟩ [.int x1, .int x2] [] (met_X17_init_X21 hw) rfl (Nat.zero_le _) ⟨Nat.le_refl _, Nat.le_refl _⟩ dX21_init_3 rfl (v_kv (fun h_1 hv => ?_))
  clear hw
  have hw := hv
  clear hv
  exact v_vret dX21_init_6 rfl ⟨rfl, hw⟩
theorem met_X21_init {post : (AH) → Prop}   {b0 : Nat} {x1 : Int32} {x2 : Int32} {h : AH}  (hw : w_X21_init post  b0 x1 x2 h) : Mt l E yX21_init (ws_ yX21_init cX21_init 3 none) r_X21_init [va_rf (some b0), .int x1, .int x2] h (vpv (fun (h' : AH) => post h')) := v_entry (by decide +kernel) (Nat.le_of_ble_eq_true rfl) rfl (fun _ => e_X21_init hw)
/-! X0_comes -/
abbrev r_X0_comes : Room := { frames := 4, cells := 1, slots := 1, locals := 102 }
theorem n_X0_comes : vdn yX0_comes 1 := ⟨by decide +kernel, by decide +kernel, by decide +kernel⟩
def w_X0_comes (post : (Option Nat) → (AH) → Prop) (b0 : Nat) (x1 : Option Nat) (h : AH) : Prop :=
 (∃ a_1 : Nat, x1 = some a_1 ∧ (∃ (fs_2 : List Value) (r_5 : Option Nat), h a_1 = some (.inr (10, fs_2)) ∧ fs_2[0]? = some (va_rf r_5) ∧ (∃ (fs_6 : List Value) (z_9 : Int32), h a_1 = some (.inr (10, fs_6)) ∧ fs_6[1]? = some (.int z_9) ∧ (∃ fs_196 : List Value, h b0 = some (.inr (0, fs_196)) ∧ (w_X0_seekSongs (fun (z_10 : Int32) (h_11 : AH) => (∃ (fs_12 : List Value) (r_15 : Option Nat), h_11 b0 = some (.inr (0, fs_12)) ∧ fs_12[1]? = some (va_rf r_15) ∧ (∃ a_16 : Nat, r_15 = some a_16 ∧ (∃ (fs_17 : List Value) (z_20 : Int32), h_11 a_16 = some (.inr (1, fs_17)) ∧ fs_17[1]? = some (.int z_20) ∧ ((z_10 < z_20 → (∃ (fs_25 : List Value) (r_28 : Option Nat), h_11 a_1 = some (.inr (10, fs_25)) ∧ fs_25[0]? = some (va_rf r_28) ∧ (∃ (fs_29 : List Value) (z_32 : Int32), h_11 a_1 = some (.inr (10, fs_29)) ∧ fs_29[1]? = some (.int z_32) ∧ (∃ fs_178 : List Value, h_11 b0 = some (.inr (0, fs_178)) ∧ (w_X0_seekSongs (fun (z_33 : Int32) (h_34 : AH) => (∀ z_35 : Int32, z_35 = (if z_10 < z_33 then z_33 else z_10) → (∃ (fs_36 : List Value) (z_39 : Int32), h_34 b0 = some (.inr (0, fs_36)) ∧ fs_36[11]? = some (.int z_39) ∧ (∃ (fs_40 : List Value) (r_43 : Option Nat), h_34 b0 = some (.inr (0, fs_40)) ∧ fs_40[1]? = some (va_rf r_43) ∧ (∃ a_44 : Nat, r_43 = some a_44 ∧ (∃ (fs_45 : List Value) (z_48 : Int32), h_34 a_44 = some (.inr (1, fs_45)) ∧ fs_45[1]? = some (.int z_48) ∧ ((z_39 < z_48 → (∃ (fs_53 : List Value) (r_56 : Option Nat), h_34 a_1 = some (.inr (10, fs_53)) ∧ fs_53[0]? = some (va_rf r_56) ∧ (∃ (fs_57 : List Value) (z_60 : Int32), h_34 a_1 = some (.inr (10, fs_57)) ∧ fs_57[1]? = some (.int z_60) ∧ (∃ fs_160 : List Value, h_34 b0 = some (.inr (0, fs_160)) ∧ (w_X0_seekSongs (fun (z_61 : Int32) (h_62 : AH) => (∀ z_63 : Int32, z_63 = (if z_35 < z_61 then z_61 else z_35) → (∃ (fs_64 : List Value) (z_67 : Int32), h_62 b0 = some (.inr (0, fs_64)) ∧ fs_64[11]? = some (.int z_67) ∧ (∃ (fs_68 : List Value) (r_71 : Option Nat), h_62 b0 = some (.inr (0, fs_68)) ∧ fs_68[1]? = some (va_rf r_71) ∧ (∃ a_72 : Nat, r_71 = some a_72 ∧ (∃ (fs_73 : List Value) (z_76 : Int32), h_62 a_72 = some (.inr (1, fs_73)) ∧ fs_73[1]? = some (.int z_76) ∧ ((z_67 < z_76 → (∃ (fs_81 : List Value) (r_84 : Option Nat), h_62 a_1 = some (.inr (10, fs_81)) ∧ fs_81[0]? = some (va_rf r_84) ∧ (∃ fs_142 : List Value, h_62 b0 = some (.inr (0, fs_142)) ∧ (w_X0_seekBooks (fun (z_85 : Int32) (h_86 : AH) => (∀ z_87 : Int32, z_87 = (if z_63 < z_85 then z_85 else z_63) → (∃ (fs_88 : List Value) (z_91 : Int32), h_86 b0 = some (.inr (0, fs_88)) ∧ fs_88[11]? = some (.int z_91) ∧ (∃ (fs_92 : List Value) (r_95 : Option Nat), h_86 b0 = some (.inr (0, fs_92)) ∧ fs_92[1]? = some (va_rf r_95) ∧ (∃ a_96 : Nat, r_95 = some a_96 ∧ (∃ (fs_97 : List Value) (z_100 : Int32), h_86 a_96 = some (.inr (1, fs_97)) ∧ fs_97[1]? = some (.int z_100) ∧ ((z_91 < z_100 → (∃ (fs_105 : List Value) (r_108 : Option Nat), h_86 b0 = some (.inr (0, fs_105)) ∧ fs_105[1]? = some (va_rf r_108) ∧ (∃ a_109 : Nat, r_108 = some a_109 ∧ (∃ (fs_110 : List Value) (z_113 : Int32), h_86 a_109 = some (.inr (1, fs_110)) ∧ fs_110[2]? = some (.int z_113) ∧ ((z_87 < z_113 → (∃ (fs_118 : List Value) (r_121 : Option Nat), h_86 b0 = some (.inr (0, fs_118)) ∧ fs_118[10]? = some (va_rf r_121) ∧ (post r_121 h_86))) ∧ (¬ z_87 < z_113 → (∃ (fs_122 : List Value) (r_125 : Option Nat), h_86 b0 = some (.inr (0, fs_122)) ∧ fs_122[9]? = some (va_rf r_125) ∧ (post r_125 h_86)))))))) ∧ (¬ z_91 < z_100 → (0 + 1 ≤ 1 ∧ 0 + 1 ≤ 1 ∧ ∀ a_126 : Nat, h_86 a_126 = none → ∀ h_128 : AH, h_128 = va_up h_86 a_126 (some (.inr (21, dfX21))) → (∃ (fs_133 : List Value) (z_136 : Int32), h_128 b0 = some (.inr (0, fs_133)) ∧ fs_133[12]? = some (.int z_136) ∧ (∃ (fs_137 : List Value) (z_140 : Int32), h_128 b0 = some (.inr (0, fs_137)) ∧ fs_137[13]? = some (.int z_140) ∧ (w_X21_init (fun (h_141 : AH) => (post (some a_126) h_141)) a_126 z_136 z_140 h_128)))))))))))) b0 r_84 h_62)))) ∧ (¬ z_67 < z_76 → (0 + 1 ≤ 1 ∧ 0 + 1 ≤ 1 ∧ ∀ a_144 : Nat, h_62 a_144 = none → ∀ h_146 : AH, h_146 = va_up h_62 a_144 (some (.inr (20, dfX20))) → (∃ (fs_151 : List Value) (z_154 : Int32), h_146 b0 = some (.inr (0, fs_151)) ∧ fs_151[12]? = some (.int z_154) ∧ (∃ (fs_155 : List Value) (z_158 : Int32), h_146 b0 = some (.inr (0, fs_155)) ∧ fs_155[13]? = some (.int z_158) ∧ (w_X20_init (fun (h_159 : AH) => (post (some a_144) h_159)) a_144 z_154 z_158 h_146)))))))))))) b0 r_56 z_60 (nI 2) h_34))))) ∧ (¬ z_39 < z_48 → (0 + 1 ≤ 1 ∧ 0 + 1 ≤ 1 ∧ ∀ a_162 : Nat, h_34 a_162 = none → ∀ h_164 : AH, h_164 = va_up h_34 a_162 (some (.inr (19, dfX19))) → (∃ (fs_169 : List Value) (z_172 : Int32), h_164 b0 = some (.inr (0, fs_169)) ∧ fs_169[12]? = some (.int z_172) ∧ (∃ (fs_173 : List Value) (z_176 : Int32), h_164 b0 = some (.inr (0, fs_173)) ∧ fs_173[13]? = some (.int z_176) ∧ (w_X19_init (fun (h_177 : AH) => (post (some a_162) h_177)) a_162 z_172 z_176 h_164)))))))))))) b0 r_28 z_32 (nI 1) h_11))))) ∧ (¬ z_10 < z_20 → (0 + 1 ≤ 1 ∧ 0 + 1 ≤ 1 ∧ ∀ a_180 : Nat, h_11 a_180 = none → ∀ h_182 : AH, h_182 = va_up h_11 a_180 (some (.inr (18, dfX18))) → (∃ (fs_187 : List Value) (z_190 : Int32), h_182 b0 = some (.inr (0, fs_187)) ∧ fs_187[12]? = some (.int z_190) ∧ (∃ (fs_191 : List Value) (z_194 : Int32), h_182 b0 = some (.inr (0, fs_191)) ∧ fs_191[13]? = some (.int z_194) ∧ (w_X18_init (fun (h_195 : AH) => (post (some a_180) h_195)) a_180 z_190 z_194 h_182)))))))))) b0 r_5 z_9 (nI 0) h)))))
theorem e_X0_comes {post : (Option Nat) → (AH) → Prop}   {b0 : Nat} {x1 : Option Nat} {h : AH}  (hw : w_X0_comes post  b0 x1 h) : VV l E X cX0_comes RX0 "comes" 3 r_X0_comes (some (.object "NobodysBard$Comes")) (vpq (fun (r : Option Nat) (h' : AH) => post r h')) h 0 0 0 [(0, va_rf (some b0)), (1, va_rf x1)] [] := by
  refine v_aload_n (q := 0) dX0_comes_0 rfl rfl ?_
  refine v_aload_n (q := 1) dX0_comes_1 rfl rfl ?_
  obtain ⟨a_1, ea_1, hw⟩ := hw
  subst ea_1
  obtain ⟨fs_2, r_5, e_3, e_4, hw⟩ := hw
  refine v_getN in_X9 (ci := 10) rfl 0 (Nat.le_of_ble_eq_true rfl) q569 rfl dX0_comes_2 e_3 e_4 ?_
  refine v_aload_n (q := 1) dX0_comes_5 rfl rfl ?_
  obtain ⟨fs_6, z_9, e_7, e_8, hw⟩ := hw
  refine v_getN in_X9 (ci := 10) rfl 1 (Nat.le_of_ble_eq_true rfl) q571 rfl dX0_comes_6 e_7 e_8 ?_
  refine v_iconst dX0_comes_9 ic_0 ?_
  obtain ⟨fs_196, e_197, hw⟩ := hw
  refine v_callV0 q1023 q1025 qs35 q104 q1026 (ci := 0) rfl e_197 n_X0_seekSongs ⟨Nat.le_of_ble_eq_true rfl, Nat.le_of_ble_eq_true rfl⟩ [va_rf r_5, .int z_9, .int (nI 0)] [] (met_X0_seekSongs hw) rfl (Nat.zero_le _) rfl rfl dX0_comes_10 rfl (v_ki (fun z_10 h_11 hv => ?_))
  clear hw
  have hw := hv
  clear hv
  refine v_istore_n (lv1 := [(2, .int z_10), (0, va_rf (some b0)), (1, va_rf (some a_1))]) dX0_comes_13 rfl (Nat.le_of_ble_eq_true rfl) rfl ?_
  refine v_iload_n (q := 0) dX0_comes_14 rfl rfl ?_
  refine v_aload_n (q := 1) dX0_comes_15 rfl rfl ?_
  obtain ⟨fs_12, r_15, e_13, e_14, hw⟩ := hw
  refine v_get in_X0 (ci := 0) rfl 1 (Nat.le_of_ble_eq_true rfl) q319 rfl dX0_comes_16 e_13 e_14 ?_
  obtain ⟨a_16, ea_16, hw⟩ := hw
  subst ea_16
  obtain ⟨fs_17, z_20, e_18, e_19, hw⟩ := hw
  refine v_getN in_X1 (ci := 1) rfl 1 (Nat.le_of_ble_eq_true rfl) q222 rfl dX0_comes_19 e_18 e_19 ?_
  obtain ⟨hw_23, hw_24⟩ := hw
  refine v_icmp_lt (tgt := 41) dX0_comes_22 (by decide) (fun c_21 => ?_) (fun c_22 => ?_)
  · have hw := hw_23 c_21
    refine v_iload_n (q := 0) dX0_comes_41 rfl rfl ?_
    refine v_aload_n (q := 1) dX0_comes_42 rfl rfl ?_
    refine v_aload_n (q := 2) dX0_comes_43 rfl rfl ?_
    obtain ⟨fs_25, r_28, e_26, e_27, hw⟩ := hw
    refine v_getN in_X9 (ci := 10) rfl 0 (Nat.le_of_ble_eq_true rfl) q569 rfl dX0_comes_44 e_26 e_27 ?_
    refine v_aload_n (q := 2) dX0_comes_47 rfl rfl ?_
    obtain ⟨fs_29, z_32, e_30, e_31, hw⟩ := hw
    refine v_getN in_X9 (ci := 10) rfl 1 (Nat.le_of_ble_eq_true rfl) q571 rfl dX0_comes_48 e_30 e_31 ?_
    refine v_iconst dX0_comes_51 ic_1 ?_
    obtain ⟨fs_178, e_179, hw⟩ := hw
    refine v_callV0 q1023 q1025 qs35 q104 q1026 (ci := 0) rfl e_179 n_X0_seekSongs ⟨Nat.le_of_ble_eq_true rfl, Nat.le_of_ble_eq_true rfl⟩ [va_rf r_28, .int z_32, .int (nI 1)] [.int z_10] (met_X0_seekSongs hw) rfl (Nat.le_of_ble_eq_true rfl) rfl rfl dX0_comes_52 rfl (v_ki (fun z_33 h_34 hv => ?_))
    clear hw
    have hw := hv
    clear hv
    refine v_mmax q629 q467 q116 q468 (Nat.zero_le _) (Nat.le_of_ble_eq_true rfl) (Nat.le_of_ble_eq_true rfl) dX0_comes_55 ?_
    refine v_topi (fun z_35 e_35 => ?_)
    replace hw := hw z_35 e_35
    refine v_istore_n (lv1 := [(2, .int z_35), (0, va_rf (some b0)), (1, va_rf (some a_1))]) dX0_comes_58 rfl (Nat.le_of_ble_eq_true rfl) rfl ?_
    refine v_aload_n (q := 1) dX0_comes_59 rfl rfl ?_
    obtain ⟨fs_36, z_39, e_37, e_38, hw⟩ := hw
    refine v_get in_X0 (ci := 0) rfl 11 (Nat.le_of_ble_eq_true rfl) q330 rfl dX0_comes_60 e_37 e_38 ?_
    refine v_aload_n (q := 1) dX0_comes_63 rfl rfl ?_
    obtain ⟨fs_40, r_43, e_41, e_42, hw⟩ := hw
    refine v_get in_X0 (ci := 0) rfl 1 (Nat.le_of_ble_eq_true rfl) q319 rfl dX0_comes_64 e_41 e_42 ?_
    obtain ⟨a_44, ea_44, hw⟩ := hw
    subst ea_44
    obtain ⟨fs_45, z_48, e_46, e_47, hw⟩ := hw
    refine v_getN in_X1 (ci := 1) rfl 1 (Nat.le_of_ble_eq_true rfl) q222 rfl dX0_comes_67 e_46 e_47 ?_
    obtain ⟨hw_51, hw_52⟩ := hw
    refine v_icmp_lt (tgt := 89) dX0_comes_70 (by decide) (fun c_49 => ?_) (fun c_50 => ?_)
    · have hw := hw_51 c_49
      refine v_iload_n (q := 0) dX0_comes_89 rfl rfl ?_
      refine v_aload_n (q := 1) dX0_comes_90 rfl rfl ?_
      refine v_aload_n (q := 2) dX0_comes_91 rfl rfl ?_
      obtain ⟨fs_53, r_56, e_54, e_55, hw⟩ := hw
      refine v_getN in_X9 (ci := 10) rfl 0 (Nat.le_of_ble_eq_true rfl) q569 rfl dX0_comes_92 e_54 e_55 ?_
      refine v_aload_n (q := 2) dX0_comes_95 rfl rfl ?_
      obtain ⟨fs_57, z_60, e_58, e_59, hw⟩ := hw
      refine v_getN in_X9 (ci := 10) rfl 1 (Nat.le_of_ble_eq_true rfl) q571 rfl dX0_comes_96 e_58 e_59 ?_
      refine v_iconst dX0_comes_99 ic_2 ?_
      obtain ⟨fs_160, e_161, hw⟩ := hw
      refine v_callV0 q1023 q1025 qs35 q104 q1026 (ci := 0) rfl e_161 n_X0_seekSongs ⟨Nat.le_of_ble_eq_true rfl, Nat.le_of_ble_eq_true rfl⟩ [va_rf r_56, .int z_60, .int (nI 2)] [.int z_35] (met_X0_seekSongs hw) rfl (Nat.le_of_ble_eq_true rfl) rfl rfl dX0_comes_100 rfl (v_ki (fun z_61 h_62 hv => ?_))
      clear hw
      have hw := hv
      clear hv
      refine v_mmax q629 q467 q116 q468 (Nat.zero_le _) (Nat.le_of_ble_eq_true rfl) (Nat.le_of_ble_eq_true rfl) dX0_comes_103 ?_
      refine v_topi (fun z_63 e_63 => ?_)
      replace hw := hw z_63 e_63
      refine v_istore_n (lv1 := [(2, .int z_63), (0, va_rf (some b0)), (1, va_rf (some a_1))]) dX0_comes_106 rfl (Nat.le_of_ble_eq_true rfl) rfl ?_
      refine v_aload_n (q := 1) dX0_comes_107 rfl rfl ?_
      obtain ⟨fs_64, z_67, e_65, e_66, hw⟩ := hw
      refine v_get in_X0 (ci := 0) rfl 11 (Nat.le_of_ble_eq_true rfl) q330 rfl dX0_comes_108 e_65 e_66 ?_
      refine v_aload_n (q := 1) dX0_comes_111 rfl rfl ?_
      obtain ⟨fs_68, r_71, e_69, e_70, hw⟩ := hw
      refine v_get in_X0 (ci := 0) rfl 1 (Nat.le_of_ble_eq_true rfl) q319 rfl dX0_comes_112 e_69 e_70 ?_
      obtain ⟨a_72, ea_72, hw⟩ := hw
      subst ea_72
      obtain ⟨fs_73, z_76, e_74, e_75, hw⟩ := hw
      refine v_getN in_X1 (ci := 1) rfl 1 (Nat.le_of_ble_eq_true rfl) q222 rfl dX0_comes_115 e_74 e_75 ?_
      obtain ⟨hw_79, hw_80⟩ := hw
      refine v_icmp_lt (tgt := 137) dX0_comes_118 (by decide) (fun c_77 => ?_) (fun c_78 => ?_)
      · have hw := hw_79 c_77
        refine v_iload_n (q := 0) dX0_comes_137 rfl rfl ?_
        refine v_aload_n (q := 1) dX0_comes_138 rfl rfl ?_
        refine v_aload_n (q := 2) dX0_comes_139 rfl rfl ?_
        obtain ⟨fs_81, r_84, e_82, e_83, hw⟩ := hw
        refine v_getN in_X9 (ci := 10) rfl 0 (Nat.le_of_ble_eq_true rfl) q569 rfl dX0_comes_140 e_82 e_83 ?_
        obtain ⟨fs_142, e_143, hw⟩ := hw
        refine v_callV0 q1060 q1062 qs37 q104 q1063 (ci := 0) rfl e_143 n_X0_seekBooks ⟨Nat.le_of_ble_eq_true rfl, Nat.le_of_ble_eq_true rfl⟩ [va_rf r_84] [.int z_63] (met_X0_seekBooks hw) rfl (Nat.le_of_ble_eq_true rfl) rfl rfl dX0_comes_143 rfl (v_ki (fun z_85 h_86 hv => ?_))
        clear hw
        have hw := hv
        clear hv
        refine v_mmax q629 q467 q116 q468 (Nat.zero_le _) (Nat.le_of_ble_eq_true rfl) (Nat.le_of_ble_eq_true rfl) dX0_comes_146 ?_
        refine v_topi (fun z_87 e_87 => ?_)
        replace hw := hw z_87 e_87
        refine v_istore_n (lv1 := [(2, .int z_87), (0, va_rf (some b0)), (1, va_rf (some a_1))]) dX0_comes_149 rfl (Nat.le_of_ble_eq_true rfl) rfl ?_
        refine v_aload_n (q := 1) dX0_comes_150 rfl rfl ?_
        obtain ⟨fs_88, z_91, e_89, e_90, hw⟩ := hw
        refine v_get in_X0 (ci := 0) rfl 11 (Nat.le_of_ble_eq_true rfl) q330 rfl dX0_comes_151 e_89 e_90 ?_
        refine v_aload_n (q := 1) dX0_comes_154 rfl rfl ?_
        obtain ⟨fs_92, r_95, e_93, e_94, hw⟩ := hw
        refine v_get in_X0 (ci := 0) rfl 1 (Nat.le_of_ble_eq_true rfl) q319 rfl dX0_comes_155 e_93 e_94 ?_
        obtain ⟨a_96, ea_96, hw⟩ := hw
        subst ea_96
        obtain ⟨fs_97, z_100, e_98, e_99, hw⟩ := hw
        refine v_getN in_X1 (ci := 1) rfl 1 (Nat.le_of_ble_eq_true rfl) q222 rfl dX0_comes_158 e_98 e_99 ?_
        obtain ⟨hw_103, hw_104⟩ := hw
        refine v_icmp_lt (tgt := 180) dX0_comes_161 (by decide) (fun c_101 => ?_) (fun c_102 => ?_)
        · have hw := hw_103 c_101
          refine v_iload_n (q := 0) dX0_comes_180 rfl rfl ?_
          refine v_aload_n (q := 1) dX0_comes_181 rfl rfl ?_
          obtain ⟨fs_105, r_108, e_106, e_107, hw⟩ := hw
          refine v_get in_X0 (ci := 0) rfl 1 (Nat.le_of_ble_eq_true rfl) q319 rfl dX0_comes_182 e_106 e_107 ?_
          obtain ⟨a_109, ea_109, hw⟩ := hw
          subst ea_109
          obtain ⟨fs_110, z_113, e_111, e_112, hw⟩ := hw
          refine v_getN in_X1 (ci := 1) rfl 2 (Nat.le_of_ble_eq_true rfl) q224 rfl dX0_comes_185 e_111 e_112 ?_
          obtain ⟨hw_116, hw_117⟩ := hw
          refine v_icmp_lt (tgt := 198) dX0_comes_188 (by decide) (fun c_114 => ?_) (fun c_115 => ?_)
          · have hw := hw_116 c_114
            refine v_aload_n (q := 1) dX0_comes_198 rfl rfl ?_
            obtain ⟨fs_118, r_121, e_119, e_120, hw⟩ := hw
            refine v_get in_X0 (ci := 0) rfl 10 (Nat.le_of_ble_eq_true rfl) q329 rfl dX0_comes_199 e_119 e_120 ?_
            exact v_aret dX0_comes_202 rfl (Or.inl ⟨_, rfl⟩) ⟨_, rfl, hw⟩
          · have hw := hw_117 c_115
            refine v_aload_n (q := 1) dX0_comes_191 rfl rfl ?_
            obtain ⟨fs_122, r_125, e_123, e_124, hw⟩ := hw
            refine v_get in_X0 (ci := 0) rfl 9 (Nat.le_of_ble_eq_true rfl) q328 rfl dX0_comes_192 e_123 e_124 ?_
            refine v_goto (tgt := 202) dX0_comes_195 (by decide) ?_
            exact v_aret dX0_comes_202 rfl (Or.inl ⟨_, rfl⟩) ⟨_, rfl, hw⟩
        · have hw := hw_104 c_102
          obtain ⟨e_129, e_130, hw⟩ := hw
          refine v_new in_X21 (ci := 21) rfl tyX21 tyX21_ok q1064 q1065 q137 dfX21_ok e_129 e_130 dX0_comes_164 (fun a_126 e_127 => ?_)
          obtain ⟨h_128, eh_128⟩ : ∃ z9 : AH, z9 = va_up h_86 a_126 (some (.inr (21, dfX21))) := ⟨_, rfl⟩
          replace hw := hw a_126 e_127 h_128 eh_128
          rw [← eh_128]
          refine v_dup dX0_comes_167 (v_rf1 _) ?_
          refine v_aload_n (q := 1) dX0_comes_168 rfl rfl ?_
          obtain ⟨fs_133, z_136, e_134, e_135, hw⟩ := hw
          refine v_get in_X0 (ci := 0) rfl 12 (Nat.le_of_ble_eq_true rfl) q331 rfl dX0_comes_169 e_134 e_135 ?_
          refine v_aload_n (q := 1) dX0_comes_172 rfl rfl ?_
          obtain ⟨fs_137, z_140, e_138, e_139, hw⟩ := hw
          refine v_get in_X0 (ci := 0) rfl 13 (Nat.le_of_ble_eq_true rfl) q332 rfl dX0_comes_173 e_138 e_139 ?_
          refine v_callI0 q1066 q1067 q137 q1068 rfl n_X21_init ⟨Nat.le_of_ble_eq_true rfl, Nat.le_of_ble_eq_true rfl⟩ [.int z_136, .int z_140] [va_rf (some a_126)] (met_X21_init hw) rfl (by simp only [List.map_cons, List.map_nil, List.sum_cons, List.sum_nil, v_rf1, v_cI, v_cJ]; decide) rfl rfl dX0_comes_176 rfl (v_kv (fun h_141 hv => ?_))
          clear hw
          have hw := hv
          clear hv
          exact v_aret dX0_comes_179 rfl (Or.inl ⟨_, rfl⟩) ⟨_, rfl, hw⟩
      · have hw := hw_80 c_78
        obtain ⟨e_147, e_148, hw⟩ := hw
        refine v_new in_X20 (ci := 20) rfl tyX20 tyX20_ok q1052 q1053 q136 dfX20_ok e_147 e_148 dX0_comes_121 (fun a_144 e_145 => ?_)
        obtain ⟨h_146, eh_146⟩ : ∃ z9 : AH, z9 = va_up h_62 a_144 (some (.inr (20, dfX20))) := ⟨_, rfl⟩
        replace hw := hw a_144 e_145 h_146 eh_146
        rw [← eh_146]
        refine v_dup dX0_comes_124 (v_rf1 _) ?_
        refine v_aload_n (q := 1) dX0_comes_125 rfl rfl ?_
        obtain ⟨fs_151, z_154, e_152, e_153, hw⟩ := hw
        refine v_get in_X0 (ci := 0) rfl 12 (Nat.le_of_ble_eq_true rfl) q331 rfl dX0_comes_126 e_152 e_153 ?_
        refine v_aload_n (q := 1) dX0_comes_129 rfl rfl ?_
        obtain ⟨fs_155, z_158, e_156, e_157, hw⟩ := hw
        refine v_get in_X0 (ci := 0) rfl 13 (Nat.le_of_ble_eq_true rfl) q332 rfl dX0_comes_130 e_156 e_157 ?_
        refine v_callI0 q1054 q1055 q136 q1056 rfl n_X20_init ⟨Nat.le_of_ble_eq_true rfl, Nat.le_of_ble_eq_true rfl⟩ [.int z_154, .int z_158] [va_rf (some a_144)] (met_X20_init hw) rfl (by simp only [List.map_cons, List.map_nil, List.sum_cons, List.sum_nil, v_rf1, v_cI, v_cJ]; decide) rfl rfl dX0_comes_133 rfl (v_kv (fun h_159 hv => ?_))
        clear hw
        have hw := hv
        clear hv
        exact v_aret dX0_comes_136 rfl (Or.inl ⟨_, rfl⟩) ⟨_, rfl, hw⟩
    · have hw := hw_52 c_50
      obtain ⟨e_165, e_166, hw⟩ := hw
      refine v_new in_X19 (ci := 19) rfl tyX19 tyX19_ok q1044 q1045 q135 dfX19_ok e_165 e_166 dX0_comes_73 (fun a_162 e_163 => ?_)
      obtain ⟨h_164, eh_164⟩ : ∃ z9 : AH, z9 = va_up h_34 a_162 (some (.inr (19, dfX19))) := ⟨_, rfl⟩
      replace hw := hw a_162 e_163 h_164 eh_164
      rw [← eh_164]
      refine v_dup dX0_comes_76 (v_rf1 _) ?_
      refine v_aload_n (q := 1) dX0_comes_77 rfl rfl ?_
      obtain ⟨fs_169, z_172, e_170, e_171, hw⟩ := hw
      refine v_get in_X0 (ci := 0) rfl 12 (Nat.le_of_ble_eq_true rfl) q331 rfl dX0_comes_78 e_170 e_171 ?_
      refine v_aload_n (q := 1) dX0_comes_81 rfl rfl ?_
      obtain ⟨fs_173, z_176, e_174, e_175, hw⟩ := hw
      refine v_get in_X0 (ci := 0) rfl 13 (Nat.le_of_ble_eq_true rfl) q332 rfl dX0_comes_82 e_174 e_175 ?_
      refine v_callI0 q1046 q1047 q135 q1048 rfl n_X19_init ⟨Nat.le_of_ble_eq_true rfl, Nat.le_of_ble_eq_true rfl⟩ [.int z_172, .int z_176] [va_rf (some a_162)] (met_X19_init hw) rfl (by simp only [List.map_cons, List.map_nil, List.sum_cons, List.sum_nil, v_rf1, v_cI, v_cJ]; decide) rfl rfl dX0_comes_85 rfl (v_kv (fun h_177 hv => ?_))
      clear hw
      have hw := hv
      clear hv
      exact v_aret dX0_comes_88 rfl (Or.inl ⟨_, rfl⟩) ⟨_, rfl, hw⟩
  · have hw := hw_24 c_22
    obtain ⟨e_183, e_184, hw⟩ := hw
    refine v_new in_X18 (ci := 18) rfl tyX18 tyX18_ok q1031 q1032 q134 dfX18_ok e_183 e_184 dX0_comes_25 (fun a_180 e_181 => ?_)
    obtain ⟨h_182, eh_182⟩ : ∃ z9 : AH, z9 = va_up h_11 a_180 (some (.inr (18, dfX18))) := ⟨_, rfl⟩
    replace hw := hw a_180 e_181 h_182 eh_182
    rw [← eh_182]
    refine v_dup dX0_comes_28 (v_rf1 _) ?_
    refine v_aload_n (q := 1) dX0_comes_29 rfl rfl ?_
    obtain ⟨fs_187, z_190, e_188, e_189, hw⟩ := hw
    refine v_get in_X0 (ci := 0) rfl 12 (Nat.le_of_ble_eq_true rfl) q331 rfl dX0_comes_30 e_188 e_189 ?_
    refine v_aload_n (q := 1) dX0_comes_33 rfl rfl ?_
    obtain ⟨fs_191, z_194, e_192, e_193, hw⟩ := hw
    refine v_get in_X0 (ci := 0) rfl 13 (Nat.le_of_ble_eq_true rfl) q332 rfl dX0_comes_34 e_192 e_193 ?_
    refine v_callI0 q1033 q1034 q134 q1035 rfl n_X18_init ⟨Nat.le_of_ble_eq_true rfl, Nat.le_of_ble_eq_true rfl⟩ [.int z_190, .int z_194] [va_rf (some a_180)] (met_X18_init hw) rfl (by simp only [List.map_cons, List.map_nil, List.sum_cons, List.sum_nil, v_rf1, v_cI, v_cJ]; decide) rfl rfl dX0_comes_37 rfl (v_kv (fun h_195 hv => ?_))
    clear hw
    have hw := hv
    clear hv
    exact v_aret dX0_comes_40 rfl (Or.inl ⟨_, rfl⟩) ⟨_, rfl, hw⟩
theorem met_X0_comes {post : (Option Nat) → (AH) → Prop}   {b0 : Nat} {x1 : Option Nat} {h : AH}  (hw : w_X0_comes post  b0 x1 h) : Mt l E yX0_comes (ws_ yX0_comes cX0_comes 3 (some (.object "NobodysBard$Comes"))) r_X0_comes [va_rf (some b0), va_rf x1] h (vpq (fun (r : Option Nat) (h' : AH) => post r h')) := v_entry (by decide +kernel) (by cases x1 <;> exact (Nat.le_of_ble_eq_true rfl)) (by cases x1 <;> exact rfl) (fun _ => e_X0_comes hw)
/-! X25_from -/
abbrev r_X25_from : Room := { frames := 0, cells := 0, slots := 0, locals := 0 }
theorem n_X25_from : vdn yX25_from 0 := ⟨by decide +kernel, by decide +kernel, by decide +kernel⟩
def w_X25_from (post : (Int32) → Prop) (b0 : Nat) (h : AH) : Prop :=
 (post (-1))
theorem e_X25_from {post : (Int32) → Prop}   {b0 : Nat} {h : AH}  (hw : w_X25_from post  b0 h) : VV l E X cX25_from RX25 "from" 1 r_X25_from (some .int) (vpi (fun (r : Int32) (h' : AH) => h' = h ∧ post r)) h 0 0 0 [(0, va_rf (some b0))] [] := by
  refine v_iconst dX25_from_0 ic_m1 ?_
  exact v_iret dX25_from_1 rfl ⟨_, rfl, rfl, hw⟩
theorem met_X25_from {post : (Int32) → Prop}   {b0 : Nat} {h : AH}  (hw : w_X25_from post  b0 h) : Mt l E yX25_from (ws_ yX25_from cX25_from 1 (some .int)) r_X25_from [va_rf (some b0)] h (vpi (fun (r : Int32) (h' : AH) => h' = h ∧ post r)) := v_entry (by decide +kernel) (Nat.le_of_ble_eq_true rfl) rfl (fun _ => e_X25_from hw)
/-! X0_toSongs -/
abbrev r_X0_toSongs : Room := { frames := 4, cells := 0, slots := 0, locals := 102 }
theorem n_X0_toSongs : vdn yX0_toSongs 1 := ⟨by decide +kernel, by decide +kernel, by decide +kernel⟩
def w_X0_toSongs (post : (Int32) → (AH) → Prop) (b0 : Nat) (x1 : Option Nat) (h : AH) : Prop :=
 (∃ fs_7 : List Value, h b0 = some (.inr (0, fs_7)) ∧ (w_X0_seekSongs (fun (z_1 : Int32) (h_2 : AH) => (∃ fs_5 : List Value, h_2 b0 = some (.inr (0, fs_5)) ∧ (w_X0_seekSongs (fun (z_3 : Int32) (h_4 : AH) => (post (if (nI 0) < (if z_1 < z_3 then z_3 else z_1) then (if z_1 < z_3 then z_3 else z_1) else (nI 0)) h_4)) b0 x1 (-1) (nI 1) h_2))) b0 x1 (-1) (nI 0) h))
theorem e_X0_toSongs {post : (Int32) → (AH) → Prop}   {b0 : Nat} {x1 : Option Nat} {h : AH}  (hw : w_X0_toSongs post  b0 x1 h) : VV l E X cX0_toSongs RX0 "toSongs" 2 r_X0_toSongs (some .int) (vpi (fun (r : Int32) (h' : AH) => post r h')) h 0 0 0 [(0, va_rf (some b0)), (1, va_rf x1)] [] := by
  refine v_iconst dX0_toSongs_0 ic_0 ?_
  refine v_aload_n (q := 0) dX0_toSongs_1 rfl rfl ?_
  refine v_aload_n (q := 1) dX0_toSongs_2 rfl rfl ?_
  refine v_iconst dX0_toSongs_3 ic_m1 ?_
  refine v_iconst dX0_toSongs_4 ic_0 ?_
  obtain ⟨fs_7, e_8, hw⟩ := hw
  refine v_callV q1023 q1025 qs35 q104 q1026 (ci := 0) rfl e_8 n_X0_seekSongs ⟨Nat.le_of_ble_eq_true rfl, Nat.le_of_ble_eq_true rfl⟩ [va_rf x1, .int (-1), .int (nI 0)] [.int (nI 0)] (met_X0_seekSongs hw) rfl (Nat.le_of_ble_eq_true rfl) ⟨Nat.le_refl _, Nat.le_refl _⟩ dX0_toSongs_5 rfl (v_ki (fun z_1 h_2 hv => ?_))
  clear hw
  have hw := hv
  clear hv
  refine v_aload_n (q := 0) dX0_toSongs_8 rfl rfl ?_
  refine v_aload_n (q := 1) dX0_toSongs_9 rfl rfl ?_
  refine v_iconst dX0_toSongs_10 ic_m1 ?_
  refine v_iconst dX0_toSongs_11 ic_1 ?_
  obtain ⟨fs_5, e_6, hw⟩ := hw
  refine v_callV q1023 q1025 qs35 q104 q1026 (ci := 0) rfl e_6 n_X0_seekSongs ⟨Nat.le_of_ble_eq_true rfl, Nat.le_of_ble_eq_true rfl⟩ [va_rf x1, .int (-1), .int (nI 1)] [.int z_1, .int (nI 0)] (met_X0_seekSongs hw) rfl (Nat.le_of_ble_eq_true rfl) ⟨Nat.le_refl _, Nat.le_refl _⟩ dX0_toSongs_12 rfl (v_ki (fun z_3 h_4 hv => ?_))
  clear hw
  have hw := hv
  clear hv
  refine v_mmax q629 q467 q116 q468 (Nat.le_of_ble_eq_true rfl) (Nat.le_of_ble_eq_true rfl) (Nat.le_of_ble_eq_true rfl) dX0_toSongs_15 ?_
  refine v_mmax q629 q467 q116 q468 (Nat.zero_le _) (Nat.le_of_ble_eq_true rfl) (Nat.le_of_ble_eq_true rfl) dX0_toSongs_18 ?_
  exact v_iret dX0_toSongs_21 rfl ⟨_, rfl, hw⟩
theorem met_X0_toSongs {post : (Int32) → (AH) → Prop}   {b0 : Nat} {x1 : Option Nat} {h : AH}  (hw : w_X0_toSongs post  b0 x1 h) : Mt l E yX0_toSongs (ws_ yX0_toSongs cX0_toSongs 2 (some .int)) r_X0_toSongs [va_rf (some b0), va_rf x1] h (vpi (fun (r : Int32) (h' : AH) => post r h')) := v_entry (by decide +kernel) (by cases x1 <;> exact (Nat.le_of_ble_eq_true rfl)) (by cases x1 <;> exact rfl) (fun _ => e_X0_toSongs hw)
/-! X0_toPrint -/
abbrev r_X0_toPrint : Room := { frames := 3, cells := 0, slots := 0, locals := 64 }
theorem n_X0_toPrint : vdn yX0_toPrint 1 := ⟨by decide +kernel, by decide +kernel, by decide +kernel⟩
def w_X0_toPrint_4 (post : (Int32) → (AH) → Prop) (b0 : Nat) (x1 : Option Nat) : Nat → (Int32) → (Int32) → (AH) → Prop
 | 0, _, _, _ => False
 | n0 + 1, x2, x3, h =>
 (∃ (fs_1 : List Value) (r_4 : Option Nat), h b0 = some (.inr (0, fs_1)) ∧ fs_1[1]? = some (va_rf r_4) ∧ (∃ a_5 : Nat, r_4 = some a_5 ∧ (∃ (fs_6 : List Value) (r_9 : Option Nat), h a_5 = some (.inr (1, fs_6)) ∧ fs_6[5]? = some (va_rf r_9) ∧ (∃ a_10 : Nat, r_9 = some a_10 ∧ (∃ fs_42 : List Value, h a_10 = some (.inr (2, fs_42)) ∧ (w_J2_size (fun (z_11 : Int32) => ((z_11 ≤ x3 → (post x2 h)) ∧ (¬ z_11 ≤ x3 → (∃ (fs_16 : List Value) (r_19 : Option Nat), h b0 = some (.inr (0, fs_16)) ∧ fs_16[1]? = some (va_rf r_19) ∧ (∃ a_20 : Nat, r_19 = some a_20 ∧ (∃ (fs_21 : List Value) (r_24 : Option Nat), h a_20 = some (.inr (1, fs_21)) ∧ fs_21[5]? = some (va_rf r_24) ∧ (∃ a_25 : Nat, r_24 = some a_25 ∧ (∃ fs_40 : List Value, h a_25 = some (.inr (2, fs_40)) ∧ (w_J2_get (fun (r_26 : Option Nat) => (∃ a_27 : Nat, r_26 = some a_27 ∧ (∃ fs_28 : List Value, h a_27 = some (.inr (10, fs_28)) ∧ (∃ (fs_30 : List Value) (r_33 : Option Nat), h a_27 = some (.inr (10, fs_30)) ∧ fs_30[0]? = some (va_rf r_33) ∧ (∃ fs_38 : List Value, h b0 = some (.inr (0, fs_38)) ∧ (w_X0_likeness (fun (z_34 : Int32) (h_35 : AH) => (∀ z_36 : Int32, z_36 = (if x2 < z_34 then z_34 else x2) → (∀ z_37 : Int32, z_37 = x3 + (nI 1) → (w_X0_toPrint_4 post b0 x1 n0 z_36 z_37 h_35)))) b0 x1 r_33 h)))))) a_25 x3 h))))))))) a_10 h))))))
def w_X0_toPrint (post : (Int32) → (AH) → Prop) (b0 : Nat) (x1 : Option Nat) (h : AH) : Prop :=
 (∃ n1 : Nat, (w_X0_toPrint_4 post b0 x1 n1 (nI 0) (nI 0) h))
theorem b_X0_toPrint_4 {post : (Int32) → (AH) → Prop}   {b0 : Nat} {x1 : Option Nat}    : ∀ (n0 : Nat) (x2 : Int32) (x3 : Int32) (h : AH), w_X0_toPrint_4 post b0 x1 n0 x2 x3 h → VV l E X cX0_toPrint RX0 "toPrint" 4 r_X0_toPrint (some .int) (vpi (fun (r : Int32) (h' : AH) => post r h')) h 0 0 4 [(0, va_rf (some b0)), (1, va_rf x1), (2, .int x2), (3, .int x3)] [] := by
  intro n0
  induction n0 with
  | zero =>
    intro x2 x3 h hw
    exact hw.elim
  | succ n0 ih =>
    intro x2 x3 h hw
    refine v_iload_n (q := 3) dX0_toPrint_4 rfl rfl ?_
    refine v_aload_n (q := 0) dX0_toPrint_5 rfl rfl ?_
    obtain ⟨fs_1, r_4, e_2, e_3, hw⟩ := hw
    refine v_get in_X0 (ci := 0) rfl 1 (Nat.le_of_ble_eq_true rfl) q319 rfl dX0_toPrint_6 e_2 e_3 ?_
    obtain ⟨a_5, ea_5, hw⟩ := hw
    subst ea_5
    obtain ⟨fs_6, r_9, e_7, e_8, hw⟩ := hw
    refine v_getN in_X1 (ci := 1) rfl 5 (Nat.le_of_ble_eq_true rfl) q230 rfl dX0_toPrint_9 e_7 e_8 ?_
    obtain ⟨a_10, ea_10, hw⟩ := hw
    subst ea_10
    obtain ⟨fs_42, e_43, hw⟩ := hw
    refine v_callV q413 q414 q415 q108 q416 (ci := 2) rfl e_43 n_J2_size ⟨Nat.le_of_ble_eq_true rfl, Nat.le_of_ble_eq_true rfl⟩ [] [.int x3] (met_J2_size hw) rfl (Nat.le_of_ble_eq_true rfl) ⟨Nat.le_refl _, Nat.le_refl _⟩ dX0_toPrint_12 rfl (v_ki (fun z_11 h1 hv => ?_))
    clear hw
    obtain ⟨e9, hw⟩ := hv
    refine v_heap e9 ?_
    clear e9
    obtain ⟨hw_14, hw_15⟩ := hw
    refine v_icmp_ge (tgt := 51) dX0_toPrint_15 (by decide) (fun c_12 => ?_) (fun c_13 => ?_)
    · have hw := hw_14 c_12
      refine v_iload_n (q := 2) dX0_toPrint_51 rfl rfl ?_
      exact v_iret dX0_toPrint_52 rfl ⟨_, rfl, hw⟩
    · have hw := hw_15 c_13
      refine v_iload_n (q := 2) dX0_toPrint_18 rfl rfl ?_
      refine v_aload_n (q := 0) dX0_toPrint_19 rfl rfl ?_
      refine v_aload_n (q := 1) dX0_toPrint_20 rfl rfl ?_
      refine v_aload_n (q := 0) dX0_toPrint_21 rfl rfl ?_
      obtain ⟨fs_16, r_19, e_17, e_18, hw⟩ := hw
      refine v_get in_X0 (ci := 0) rfl 1 (Nat.le_of_ble_eq_true rfl) q319 rfl dX0_toPrint_22 e_17 e_18 ?_
      obtain ⟨a_20, ea_20, hw⟩ := hw
      subst ea_20
      obtain ⟨fs_21, r_24, e_22, e_23, hw⟩ := hw
      refine v_getN in_X1 (ci := 1) rfl 5 (Nat.le_of_ble_eq_true rfl) q230 rfl dX0_toPrint_25 e_22 e_23 ?_
      refine v_iload_n (q := 3) dX0_toPrint_28 rfl rfl ?_
      obtain ⟨a_25, ea_25, hw⟩ := hw
      subst ea_25
      obtain ⟨fs_40, e_41, hw⟩ := hw
      refine v_callV q577 q578 q579 q108 q580 (ci := 2) rfl e_41 n_J2_get ⟨Nat.le_of_ble_eq_true rfl, Nat.le_of_ble_eq_true rfl⟩ [.int x3] [va_rf x1, va_rf (some b0), .int x2] (met_J2_get hw) rfl (by simp only [List.map_cons, List.map_nil, List.sum_cons, List.sum_nil, v_rf1, v_cI, v_cJ]; decide) ⟨Nat.le_refl _, Nat.le_refl _⟩ dX0_toPrint_29 rfl (v_kq (fun r_26 h1 hv => ?_))
      clear hw
      obtain ⟨e9, hw⟩ := hv
      refine v_heap e9 ?_
      clear e9
      obtain ⟨a_27, ea_27, hw⟩ := hw
      subst ea_27
      obtain ⟨fs_28, e_29, hw⟩ := hw
      refine v_cast (ci := 10) rfl q562 dX0_toPrint_32 e_29 ?_
      obtain ⟨fs_30, r_33, e_31, e_32, hw⟩ := hw
      refine v_getN in_X9 (ci := 10) rfl 0 (Nat.le_of_ble_eq_true rfl) q569 rfl dX0_toPrint_35 e_31 e_32 ?_
      obtain ⟨fs_38, e_39, hw⟩ := hw
      refine v_callV q621 q623 qs8 q104 q624 (ci := 0) rfl e_39 n_X0_likeness ⟨Nat.le_of_ble_eq_true rfl, Nat.le_of_ble_eq_true rfl⟩ [va_rf x1, va_rf r_33] [.int x2] (met_X0_likeness hw) rfl (Nat.le_of_ble_eq_true rfl) ⟨Nat.le_refl _, Nat.le_refl _⟩ dX0_toPrint_38 rfl (v_ki (fun z_34 h_35 hv => ?_))
      clear hw
      have hw := hv
      clear hv
      refine v_mmax q629 q467 q116 q468 (Nat.zero_le _) (Nat.le_of_ble_eq_true rfl) (Nat.le_of_ble_eq_true rfl) dX0_toPrint_41 ?_
      refine v_topi (fun z_36 e_36 => ?_)
      replace hw := hw z_36 e_36
      refine v_istore_n (lv1 := [(2, .int z_36), (0, va_rf (some b0)), (1, va_rf x1), (3, .int x3)]) dX0_toPrint_44 rfl (Nat.le_of_ble_eq_true rfl) (by cases x1 <;> rfl) ?_
      obtain ⟨z_37, e_37⟩ : ∃ z9 : Int32, z9 = x3 + (nI 1) := ⟨_, rfl⟩
      replace hw := hw z_37 e_37
      refine v_iinc (q := 3) (v := z_37) (lv1 := [(3, .int z_37), (2, .int z_36), (0, va_rf (some b0)), (1, va_rf x1)]) dX0_toPrint_45 rfl (by rw [e_37, ic_1]) (Nat.le_of_ble_eq_true rfl) rfl ?_
      refine v_goto (tgt := 4) dX0_toPrint_48 (by decide) ?_
      refine v_sub [2, 3, 1, 0] rfl ?_
      exact ih z_36 z_37 h_35 hw
theorem e_X0_toPrint {post : (Int32) → (AH) → Prop}   {b0 : Nat} {x1 : Option Nat} {h : AH}  (hw : w_X0_toPrint post  b0 x1 h) : VV l E X cX0_toPrint RX0 "toPrint" 4 r_X0_toPrint (some .int) (vpi (fun (r : Int32) (h' : AH) => post r h')) h 0 0 0 [(0, va_rf (some b0)), (1, va_rf x1)] [] := by
  refine v_iconst dX0_toPrint_0 ic_0 ?_
  refine v_istore_n (lv1 := [(2, .int (nI 0)), (0, va_rf (some b0)), (1, va_rf x1)]) dX0_toPrint_1 rfl (Nat.le_of_ble_eq_true rfl) (by cases x1 <;> rfl) ?_
  refine v_iconst dX0_toPrint_2 ic_0 ?_
  refine v_istore_n (lv1 := [(3, .int (nI 0)), (2, .int (nI 0)), (0, va_rf (some b0)), (1, va_rf x1)]) dX0_toPrint_3 rfl (Nat.le_of_ble_eq_true rfl) rfl ?_
  obtain ⟨n_44, hw⟩ := hw
  refine v_sub [2, 3, 1, 0] rfl ?_
  exact b_X0_toPrint_4 n_44 (nI 0) (nI 0) h hw
theorem met_X0_toPrint {post : (Int32) → (AH) → Prop}   {b0 : Nat} {x1 : Option Nat} {h : AH}  (hw : w_X0_toPrint post  b0 x1 h) : Mt l E yX0_toPrint (ws_ yX0_toPrint cX0_toPrint 4 (some .int)) r_X0_toPrint [va_rf (some b0), va_rf x1] h (vpi (fun (r : Int32) (h' : AH) => post r h')) := v_entry (by decide +kernel) (by cases x1 <;> exact (Nat.le_of_ble_eq_true rfl)) (by cases x1 <;> exact rfl) (fun _ => e_X0_toPrint hw)
/-! X0_late -/
abbrev r_X0_late : Room := { frames := 5, cells := 0, slots := 0, locals := 123 }
theorem n_X0_late : vdn yX0_late 2 := ⟨by decide +kernel, by decide +kernel, by decide +kernel⟩
def w_X0_late_40 (post : (Int32) → (AH) → Prop) (b0 : Nat) (x1 : Int32) (x2 : Int32) (h : AH) : Prop :=
 (∃ fs_3 : List Value, h b0 = some (.inr (0, fs_3)) ∧ (w_X0_refuse (fun (z_1 : Int32) (h_2 : AH) => (post z_1 h_2)) b0 (-2) h))
def w_X0_late (post : (Int32) → (AH) → Prop) (b0 : Nat) (x1 : Int32) (x2 : Int32) (h : AH) : Prop :=
 (∃ fs_127 : List Value, h b0 = some (.inr (0, fs_127)) ∧ (w_X0_isSong (fun (z_5 : Int32) => ((z_5 = 0 → (w_X0_late_40 post b0 x1 x2 h)) ∧ (¬ z_5 = 0 → (∃ (fs_10 : List Value) (r_13 : Option Nat), h b0 = some (.inr (0, fs_10)) ∧ fs_10[1]? = some (va_rf r_13) ∧ (∃ a_14 : Nat, r_13 = some a_14 ∧ (∃ (fs_15 : List Value) (r_18 : Option Nat), h a_14 = some (.inr (1, fs_15)) ∧ fs_15[3]? = some (va_rf r_18) ∧ (∃ a_19 : Nat, r_18 = some a_19 ∧ (∃ fs_125 : List Value, h a_19 = some (.inr (2, fs_125)) ∧ (w_J2_get (fun (r_20 : Option Nat) => (∃ a_21 : Nat, r_20 = some a_21 ∧ (∃ fs_22 : List Value, h a_21 = some (.inr (8, fs_22)) ∧ (∃ (fs_24 : List Value) (r_27 : Option Nat), h a_21 = some (.inr (8, fs_24)) ∧ fs_24[4]? = some (va_rf r_27) ∧ (∃ a_28 : Nat, r_27 = some a_28 ∧ (∃ fs_123 : List Value, h a_28 = some (.inr (2, fs_123)) ∧ (w_J2_size (fun (z_29 : Int32) => (w_X0_in (fun (z_30 : Int32) => ((¬ z_30 = 0 → (∃ (fs_35 : List Value) (r_38 : Option Nat), h b0 = some (.inr (0, fs_35)) ∧ fs_35[1]? = some (va_rf r_38) ∧ (∃ a_39 : Nat, r_38 = some a_39 ∧ (∃ (fs_40 : List Value) (r_43 : Option Nat), h a_39 = some (.inr (1, fs_40)) ∧ fs_40[3]? = some (va_rf r_43) ∧ (∃ a_44 : Nat, r_43 = some a_44 ∧ (∃ fs_121 : List Value, h a_44 = some (.inr (2, fs_121)) ∧ (w_J2_get (fun (r_45 : Option Nat) => (∃ a_46 : Nat, r_45 = some a_46 ∧ (∃ fs_47 : List Value, h a_46 = some (.inr (8, fs_47)) ∧ (∃ fs_119 : List Value, h b0 = some (.inr (0, fs_119)) ∧ (w_X0_isEarly (fun (z_49 : Int32) => ((z_49 = 0 → (∃ (fs_54 : List Value) (r_57 : Option Nat), h b0 = some (.inr (0, fs_54)) ∧ fs_54[1]? = some (va_rf r_57) ∧ (∃ a_58 : Nat, r_57 = some a_58 ∧ (∃ (fs_59 : List Value) (r_62 : Option Nat), h a_58 = some (.inr (1, fs_59)) ∧ fs_59[3]? = some (va_rf r_62) ∧ (∃ a_63 : Nat, r_62 = some a_63 ∧ (∃ fs_113 : List Value, h a_63 = some (.inr (2, fs_113)) ∧ (w_J2_get (fun (r_64 : Option Nat) => (∃ a_65 : Nat, r_64 = some a_65 ∧ (∃ fs_66 : List Value, h a_65 = some (.inr (8, fs_66)) ∧ (∃ (fs_68 : List Value) (r_71 : Option Nat), h a_65 = some (.inr (8, fs_68)) ∧ fs_68[4]? = some (va_rf r_71) ∧ (∃ a_72 : Nat, r_71 = some a_72 ∧ (∃ fs_111 : List Value, h a_72 = some (.inr (2, fs_111)) ∧ (w_J2_get (fun (r_73 : Option Nat) => (∃ a_74 : Nat, r_73 = some a_74 ∧ (∃ fs_75 : List Value, h a_74 = some (.inr (9, fs_75)) ∧ (∃ fs_109 : List Value, h b0 = some (.inr (0, fs_109)) ∧ (w_X0_toSongs (fun (z_77 : Int32) (h_78 : AH) => (∃ (fs_79 : List Value) (r_82 : Option Nat), h_78 b0 = some (.inr (0, fs_79)) ∧ fs_79[1]? = some (va_rf r_82) ∧ (∃ a_83 : Nat, r_82 = some a_83 ∧ (∃ (fs_84 : List Value) (z_87 : Int32), h_78 a_83 = some (.inr (1, fs_84)) ∧ fs_84[1]? = some (.int z_87) ∧ ((z_77 < z_87 → (∃ fs_107 : List Value, h_78 b0 = some (.inr (0, fs_107)) ∧ (w_X0_toPrint (fun (z_92 : Int32) (h_93 : AH) => (∃ (fs_94 : List Value) (r_97 : Option Nat), h_93 b0 = some (.inr (0, fs_94)) ∧ fs_94[1]? = some (va_rf r_97) ∧ (∃ a_98 : Nat, r_97 = some a_98 ∧ (∃ (fs_99 : List Value) (z_102 : Int32), h_93 a_98 = some (.inr (1, fs_99)) ∧ fs_99[1]? = some (.int z_102) ∧ ((z_92 < z_102 → (post (nI 0) h_93)) ∧ (¬ z_92 < z_102 → (post (nI 2) h_93))))))) b0 (some a_74) h_78))) ∧ (¬ z_77 < z_87 → (post (nI 1) h_78))))))) b0 (some a_74) h))))) a_72 x2 h))))))) a_63 x1 h))))))) ∧ (¬ z_49 = 0 → (∃ fs_117 : List Value, h b0 = some (.inr (0, fs_117)) ∧ (w_X0_refuse (fun (z_115 : Int32) (h_116 : AH) => (post z_115 h_116)) b0 (-5) h))))) b0 (some a_46) h))))) a_44 x1 h))))))) ∧ (z_30 = 0 → (w_X0_late_40 post b0 x1 x2 h)))) ((x2).toInt64) (lN 0) (((z_29 - (nI 1))).toInt64))) a_28 h))))))) a_19 x1 h))))))))) b0 x1 h))
theorem b_X0_late_40 {post : (Int32) → (AH) → Prop}   {b0 : Nat} {x1 : Int32} {x2 : Int32}    (h : AH) (hw : w_X0_late_40 post b0 x1 x2 h) : VV l E X cX0_late RX0 "late" 4 r_X0_late (some .int) (vpi (fun (r : Int32) (h' : AH) => post r h')) h 0 0 40 [(0, va_rf (some b0)), (1, .int x1), (2, .int x2)] [] := by
  refine v_aload_n (q := 0) dX0_late_40 rfl rfl ?_
  refine v_bipush dX0_late_41 bp_m2 ?_
  obtain ⟨fs_3, e_4, hw⟩ := hw
  refine v_callV q396 q398 qs0 q104 q399 (ci := 0) rfl e_4 n_X0_refuse ⟨Nat.le_of_ble_eq_true rfl, Nat.le_of_ble_eq_true rfl⟩ [.int (-2)] [] (met_X0_refuse hw) rfl (Nat.zero_le _) ⟨Nat.le_refl _, Nat.le_refl _⟩ dX0_late_43 rfl (v_ki (fun z_1 h_2 hv => ?_))
  clear hw
  have hw := hv
  clear hv
  exact v_iret dX0_late_46 rfl ⟨_, rfl, hw⟩
theorem e_X0_late {post : (Int32) → (AH) → Prop}   {b0 : Nat} {x1 : Int32} {x2 : Int32} {h : AH}  (hw : w_X0_late post  b0 x1 x2 h) : VV l E X cX0_late RX0 "late" 4 r_X0_late (some .int) (vpi (fun (r : Int32) (h' : AH) => post r h')) h 0 0 0 [(0, va_rf (some b0)), (1, .int x1), (2, .int x2)] [] := by
  refine v_aload_n (q := 0) dX0_late_0 rfl rfl ?_
  refine v_iload_n (q := 1) dX0_late_1 rfl rfl ?_
  obtain ⟨fs_127, e_128, hw⟩ := hw
  refine v_callV q525 q527 qs4 q104 q528 (ci := 0) rfl e_128 n_X0_isSong ⟨Nat.le_of_ble_eq_true rfl, Nat.le_of_ble_eq_true rfl⟩ [.int x1] [] (met_X0_isSong hw) rfl (Nat.zero_le _) ⟨Nat.le_refl _, Nat.le_refl _⟩ dX0_late_2 rfl (v_ki (fun z_5 h1 hv => ?_))
  clear hw
  obtain ⟨e9, hw⟩ := hv
  refine v_heap e9 ?_
  clear e9
  obtain ⟨hw_8, hw_9⟩ := hw
  refine v_if_eq (tgt := 40) dX0_late_5 (by decide) (fun c_6 => ?_) (fun c_7 => ?_)
  · have hw := hw_8 c_6
    refine v_sub [0, 1, 2] rfl ?_
    exact b_X0_late_40 h hw
  · have hw := hw_9 c_7
    refine v_iload_n (q := 2) dX0_late_8 rfl rfl ?_
    refine v_i2l dX0_late_9 ?_
    refine v_lconst (v := lN 0) dX0_late_10 rfl ?_
    refine v_aload_n (q := 0) dX0_late_11 rfl rfl ?_
    obtain ⟨fs_10, r_13, e_11, e_12, hw⟩ := hw
    refine v_get in_X0 (ci := 0) rfl 1 (Nat.le_of_ble_eq_true rfl) q319 rfl dX0_late_12 e_11 e_12 ?_
    obtain ⟨a_14, ea_14, hw⟩ := hw
    subst ea_14
    obtain ⟨fs_15, r_18, e_16, e_17, hw⟩ := hw
    refine v_getN in_X1 (ci := 1) rfl 3 (Nat.le_of_ble_eq_true rfl) q226 rfl dX0_late_15 e_16 e_17 ?_
    refine v_iload_n (q := 1) dX0_late_18 rfl rfl ?_
    obtain ⟨a_19, ea_19, hw⟩ := hw
    subst ea_19
    obtain ⟨fs_125, e_126, hw⟩ := hw
    refine v_callV q577 q578 q579 q108 q580 (ci := 2) rfl e_126 n_J2_get ⟨Nat.le_of_ble_eq_true rfl, Nat.le_of_ble_eq_true rfl⟩ [.int x1] [.long (lN 0), .long ((x2).toInt64)] (met_J2_get hw) rfl (Nat.le_of_ble_eq_true rfl) ⟨Nat.le_refl _, Nat.le_refl _⟩ dX0_late_19 rfl (v_kq (fun r_20 h1 hv => ?_))
    clear hw
    obtain ⟨e9, hw⟩ := hv
    refine v_heap e9 ?_
    clear e9
    obtain ⟨a_21, ea_21, hw⟩ := hw
    subst ea_21
    obtain ⟨fs_22, e_23, hw⟩ := hw
    refine v_cast (ci := 8) rfl q417 dX0_late_22 e_23 ?_
    obtain ⟨fs_24, r_27, e_25, e_26, hw⟩ := hw
    refine v_getN in_X7 (ci := 8) rfl 4 (Nat.le_of_ble_eq_true rfl) q433 rfl dX0_late_25 e_25 e_26 ?_
    obtain ⟨a_28, ea_28, hw⟩ := hw
    subst ea_28
    obtain ⟨fs_123, e_124, hw⟩ := hw
    refine v_callV q413 q414 q415 q108 q416 (ci := 2) rfl e_124 n_J2_size ⟨Nat.le_of_ble_eq_true rfl, Nat.le_of_ble_eq_true rfl⟩ [] [.long (lN 0), .long ((x2).toInt64)] (met_J2_size hw) rfl (Nat.le_of_ble_eq_true rfl) ⟨Nat.le_refl _, Nat.le_refl _⟩ dX0_late_28 rfl (v_ki (fun z_29 h1 hv => ?_))
    clear hw
    obtain ⟨e9, hw⟩ := hv
    refine v_heap e9 ?_
    clear e9
    refine v_iconst dX0_late_31 ic_1 ?_
    refine v_isub dX0_late_32 ?_
    refine v_i2l dX0_late_33 ?_
    refine v_callS q393 q394 q104 q395 n_X0_in ⟨Nat.le_of_ble_eq_true rfl, Nat.le_of_ble_eq_true rfl⟩ [.long ((x2).toInt64), .long (lN 0), .long (((z_29 - (nI 1))).toInt64)] [] (met_X0_in hw) rfl (Nat.zero_le _) ⟨Nat.le_refl _, Nat.le_refl _⟩ dX0_late_34 rfl (v_ki (fun z_30 h1 hv => ?_))
    clear hw
    obtain ⟨e9, hw⟩ := hv
    refine v_heap e9 ?_
    clear e9
    obtain ⟨hw_33, hw_34⟩ := hw
    refine v_if_ne (tgt := 47) dX0_late_37 (by decide) (fun c_31 => ?_) (fun c_32 => ?_)
    · have hw := hw_33 c_31
      refine v_aload_n (q := 0) dX0_late_47 rfl rfl ?_
      refine v_aload_n (q := 0) dX0_late_48 rfl rfl ?_
      obtain ⟨fs_35, r_38, e_36, e_37, hw⟩ := hw
      refine v_get in_X0 (ci := 0) rfl 1 (Nat.le_of_ble_eq_true rfl) q319 rfl dX0_late_49 e_36 e_37 ?_
      obtain ⟨a_39, ea_39, hw⟩ := hw
      subst ea_39
      obtain ⟨fs_40, r_43, e_41, e_42, hw⟩ := hw
      refine v_getN in_X1 (ci := 1) rfl 3 (Nat.le_of_ble_eq_true rfl) q226 rfl dX0_late_52 e_41 e_42 ?_
      refine v_iload_n (q := 1) dX0_late_55 rfl rfl ?_
      obtain ⟨a_44, ea_44, hw⟩ := hw
      subst ea_44
      obtain ⟨fs_121, e_122, hw⟩ := hw
      refine v_callV q577 q578 q579 q108 q580 (ci := 2) rfl e_122 n_J2_get ⟨Nat.le_of_ble_eq_true rfl, Nat.le_of_ble_eq_true rfl⟩ [.int x1] [va_rf (some b0)] (met_J2_get hw) rfl (by simp only [List.map_cons, List.map_nil, List.sum_cons, List.sum_nil, v_rf1, v_cI, v_cJ]; decide) ⟨Nat.le_refl _, Nat.le_refl _⟩ dX0_late_56 rfl (v_kq (fun r_45 h1 hv => ?_))
      clear hw
      obtain ⟨e9, hw⟩ := hv
      refine v_heap e9 ?_
      clear e9
      obtain ⟨a_46, ea_46, hw⟩ := hw
      subst ea_46
      obtain ⟨fs_47, e_48, hw⟩ := hw
      refine v_cast (ci := 8) rfl q417 dX0_late_59 e_48 ?_
      obtain ⟨fs_119, e_120, hw⟩ := hw
      refine v_callV q1015 q1017 qs33 q104 q1018 (ci := 0) rfl e_120 n_X0_isEarly ⟨Nat.le_of_ble_eq_true rfl, Nat.le_of_ble_eq_true rfl⟩ [va_rf (some a_46)] [] (met_X0_isEarly hw) rfl (Nat.zero_le _) ⟨Nat.le_refl _, Nat.le_refl _⟩ dX0_late_62 rfl (v_ki (fun z_49 h1 hv => ?_))
      clear hw
      obtain ⟨e9, hw⟩ := hv
      refine v_heap e9 ?_
      clear e9
      obtain ⟨hw_52, hw_53⟩ := hw
      refine v_if_eq (tgt := 75) dX0_late_65 (by decide) (fun c_50 => ?_) (fun c_51 => ?_)
      · have hw := hw_52 c_50
        refine v_aload_n (q := 0) dX0_late_75 rfl rfl ?_
        obtain ⟨fs_54, r_57, e_55, e_56, hw⟩ := hw
        refine v_get in_X0 (ci := 0) rfl 1 (Nat.le_of_ble_eq_true rfl) q319 rfl dX0_late_76 e_55 e_56 ?_
        obtain ⟨a_58, ea_58, hw⟩ := hw
        subst ea_58
        obtain ⟨fs_59, r_62, e_60, e_61, hw⟩ := hw
        refine v_getN in_X1 (ci := 1) rfl 3 (Nat.le_of_ble_eq_true rfl) q226 rfl dX0_late_79 e_60 e_61 ?_
        refine v_iload_n (q := 1) dX0_late_82 rfl rfl ?_
        obtain ⟨a_63, ea_63, hw⟩ := hw
        subst ea_63
        obtain ⟨fs_113, e_114, hw⟩ := hw
        refine v_callV q577 q578 q579 q108 q580 (ci := 2) rfl e_114 n_J2_get ⟨Nat.le_of_ble_eq_true rfl, Nat.le_of_ble_eq_true rfl⟩ [.int x1] [] (met_J2_get hw) rfl (Nat.zero_le _) ⟨Nat.le_refl _, Nat.le_refl _⟩ dX0_late_83 rfl (v_kq (fun r_64 h1 hv => ?_))
        clear hw
        obtain ⟨e9, hw⟩ := hv
        refine v_heap e9 ?_
        clear e9
        obtain ⟨a_65, ea_65, hw⟩ := hw
        subst ea_65
        obtain ⟨fs_66, e_67, hw⟩ := hw
        refine v_cast (ci := 8) rfl q417 dX0_late_86 e_67 ?_
        obtain ⟨fs_68, r_71, e_69, e_70, hw⟩ := hw
        refine v_getN in_X7 (ci := 8) rfl 4 (Nat.le_of_ble_eq_true rfl) q433 rfl dX0_late_89 e_69 e_70 ?_
        refine v_iload_n (q := 2) dX0_late_92 rfl rfl ?_
        obtain ⟨a_72, ea_72, hw⟩ := hw
        subst ea_72
        obtain ⟨fs_111, e_112, hw⟩ := hw
        refine v_callV q577 q578 q579 q108 q580 (ci := 2) rfl e_112 n_J2_get ⟨Nat.le_of_ble_eq_true rfl, Nat.le_of_ble_eq_true rfl⟩ [.int x2] [] (met_J2_get hw) rfl (Nat.zero_le _) ⟨Nat.le_refl _, Nat.le_refl _⟩ dX0_late_93 rfl (v_kq (fun r_73 h1 hv => ?_))
        clear hw
        obtain ⟨e9, hw⟩ := hv
        refine v_heap e9 ?_
        clear e9
        obtain ⟨a_74, ea_74, hw⟩ := hw
        subst ea_74
        obtain ⟨fs_75, e_76, hw⟩ := hw
        refine v_cast (ci := 9) rfl q304 dX0_late_96 e_76 ?_
        refine v_astore_n (lv1 := [(3, va_rf (some a_74)), (0, va_rf (some b0)), (1, .int x1), (2, .int x2)]) dX0_late_99 rfl (Nat.le_of_ble_eq_true rfl) rfl ?_
        refine v_aload_n (q := 1) dX0_late_100 rfl rfl ?_
        refine v_aload_n (q := 0) dX0_late_101 rfl rfl ?_
        obtain ⟨fs_109, e_110, hw⟩ := hw
        refine v_callV q1136 q1138 qs38 q104 q1139 (ci := 0) rfl e_110 n_X0_toSongs ⟨Nat.le_of_ble_eq_true rfl, Nat.le_of_ble_eq_true rfl⟩ [va_rf (some a_74)] [] (met_X0_toSongs hw) rfl (Nat.zero_le _) ⟨Nat.le_refl _, Nat.le_refl _⟩ dX0_late_102 rfl (v_ki (fun z_77 h_78 hv => ?_))
        clear hw
        have hw := hv
        clear hv
        refine v_aload_n (q := 1) dX0_late_105 rfl rfl ?_
        obtain ⟨fs_79, r_82, e_80, e_81, hw⟩ := hw
        refine v_get in_X0 (ci := 0) rfl 1 (Nat.le_of_ble_eq_true rfl) q319 rfl dX0_late_106 e_80 e_81 ?_
        obtain ⟨a_83, ea_83, hw⟩ := hw
        subst ea_83
        obtain ⟨fs_84, z_87, e_85, e_86, hw⟩ := hw
        refine v_getN in_X1 (ci := 1) rfl 1 (Nat.le_of_ble_eq_true rfl) q222 rfl dX0_late_109 e_85 e_86 ?_
        obtain ⟨hw_90, hw_91⟩ := hw
        refine v_icmp_lt (tgt := 119) dX0_late_112 (by decide) (fun c_88 => ?_) (fun c_89 => ?_)
        · have hw := hw_90 c_88
          refine v_aload_n (q := 1) dX0_late_119 rfl rfl ?_
          refine v_aload_n (q := 0) dX0_late_120 rfl rfl ?_
          obtain ⟨fs_107, e_108, hw⟩ := hw
          refine v_callV q1140 q1142 qs39 q104 q1143 (ci := 0) rfl e_108 n_X0_toPrint ⟨Nat.le_of_ble_eq_true rfl, Nat.le_of_ble_eq_true rfl⟩ [va_rf (some a_74)] [] (met_X0_toPrint hw) rfl (Nat.zero_le _) ⟨Nat.le_refl _, Nat.le_refl _⟩ dX0_late_121 rfl (v_ki (fun z_92 h_93 hv => ?_))
          clear hw
          have hw := hv
          clear hv
          refine v_aload_n (q := 1) dX0_late_124 rfl rfl ?_
          obtain ⟨fs_94, r_97, e_95, e_96, hw⟩ := hw
          refine v_get in_X0 (ci := 0) rfl 1 (Nat.le_of_ble_eq_true rfl) q319 rfl dX0_late_125 e_95 e_96 ?_
          obtain ⟨a_98, ea_98, hw⟩ := hw
          subst ea_98
          obtain ⟨fs_99, z_102, e_100, e_101, hw⟩ := hw
          refine v_getN in_X1 (ci := 1) rfl 1 (Nat.le_of_ble_eq_true rfl) q222 rfl dX0_late_128 e_100 e_101 ?_
          obtain ⟨hw_105, hw_106⟩ := hw
          refine v_icmp_lt (tgt := 138) dX0_late_131 (by decide) (fun c_103 => ?_) (fun c_104 => ?_)
          · have hw := hw_105 c_103
            refine v_iconst dX0_late_138 ic_0 ?_
            exact v_iret dX0_late_139 rfl ⟨_, rfl, hw⟩
          · have hw := hw_106 c_104
            refine v_iconst dX0_late_134 ic_2 ?_
            refine v_goto (tgt := 139) dX0_late_135 (by decide) ?_
            exact v_iret dX0_late_139 rfl ⟨_, rfl, hw⟩
        · have hw := hw_91 c_89
          refine v_iconst dX0_late_115 ic_1 ?_
          refine v_goto (tgt := 139) dX0_late_116 (by decide) ?_
          exact v_iret dX0_late_139 rfl ⟨_, rfl, hw⟩
      · have hw := hw_53 c_51
        refine v_aload_n (q := 0) dX0_late_68 rfl rfl ?_
        refine v_bipush dX0_late_69 bp_m5 ?_
        obtain ⟨fs_117, e_118, hw⟩ := hw
        refine v_callV q396 q398 qs0 q104 q399 (ci := 0) rfl e_118 n_X0_refuse ⟨Nat.le_of_ble_eq_true rfl, Nat.le_of_ble_eq_true rfl⟩ [.int (-5)] [] (met_X0_refuse hw) rfl (Nat.zero_le _) ⟨Nat.le_refl _, Nat.le_refl _⟩ dX0_late_71 rfl (v_ki (fun z_115 h_116 hv => ?_))
        clear hw
        have hw := hv
        clear hv
        exact v_iret dX0_late_74 rfl ⟨_, rfl, hw⟩
    · have hw := hw_34 c_32
      refine v_sub [0, 1, 2] rfl ?_
      exact b_X0_late_40 h hw
theorem met_X0_late {post : (Int32) → (AH) → Prop}   {b0 : Nat} {x1 : Int32} {x2 : Int32} {h : AH}  (hw : w_X0_late post  b0 x1 x2 h) : Mt l E yX0_late (ws_ yX0_late cX0_late 4 (some .int)) r_X0_late [va_rf (some b0), .int x1, .int x2] h (vpi (fun (r : Int32) (h' : AH) => post r h')) := v_entry (by decide +kernel) (Nat.le_of_ble_eq_true rfl) rfl (fun _ => e_X0_late hw)
/-! X0_isPart -/
abbrev r_X0_isPart : Room := { frames := 1, cells := 0, slots := 0, locals := 25 }
theorem n_X0_isPart : vdn yX0_isPart 1 := ⟨by decide +kernel, by decide +kernel, by decide +kernel⟩
def w_X0_isPart (post : (Int32) → Prop) (x0 : Int32) : Prop :=
 (w_X0_in (fun (z_1 : Int32) => ((z_1 = nI 0 ∨ z_1 = nI 1) ∧ post z_1)) ((x0).toInt64) (lN 0) (lN 1))
theorem e_X0_isPart {post : (Int32) → Prop}   {x0 : Int32} {h : AH}  (hw : w_X0_isPart post  x0) : VV l E X cX0_isPart RX0 "isPart" 1 r_X0_isPart (some .boolean) (vpi (fun (r : Int32) (h' : AH) => h' = h ∧ post r)) h 0 0 0 [(0, .int x0)] [] := by
  refine v_iload_n (q := 0) dX0_isPart_0 rfl rfl ?_
  refine v_i2l dX0_isPart_1 ?_
  refine v_lconst (v := lN 0) dX0_isPart_2 rfl ?_
  refine v_lconst (v := lN 1) dX0_isPart_3 rfl ?_
  refine v_callS q393 q394 q104 q395 n_X0_in ⟨Nat.le_of_ble_eq_true rfl, Nat.le_of_ble_eq_true rfl⟩ [.long ((x0).toInt64), .long (lN 0), .long (lN 1)] [] (met_X0_in hw) rfl (Nat.zero_le _) ⟨Nat.le_refl _, Nat.le_refl _⟩ dX0_isPart_4 rfl (v_ki (fun z_1 h1 hv => ?_))
  clear hw
  obtain ⟨e9, hw⟩ := hv
  refine v_heap e9 ?_
  clear e9
  obtain ⟨hn_2, hw⟩ := hw
  exact v_zret dX0_isPart_7 rfl (v_z1 hn_2).1 ⟨_, rfl, rfl, hw⟩
theorem met_X0_isPart {post : (Int32) → Prop}   {x0 : Int32} {h : AH}  (hw : w_X0_isPart post  x0) : Mt l E yX0_isPart (ws_ yX0_isPart cX0_isPart 1 (some .boolean)) r_X0_isPart [.int x0] h (vpi (fun (r : Int32) (h' : AH) => h' = h ∧ post r)) := v_entry (by decide +kernel) (Nat.le_of_ble_eq_true rfl) rfl (fun _ => e_X0_isPart hw)
/-! X0_isBound -/
abbrev r_X0_isBound : Room := { frames := 1, cells := 0, slots := 0, locals := 25 }
theorem n_X0_isBound : vdn yX0_isBound 1 := ⟨by decide +kernel, by decide +kernel, by decide +kernel⟩
def w_X0_isBound (post : (Int32) → Prop) (x0 : Int32) : Prop :=
 (w_X0_in (fun (z_1 : Int32) => ((z_1 = nI 0 ∨ z_1 = nI 1) ∧ post z_1)) ((x0).toInt64) (lN 1) (lN 100))
theorem e_X0_isBound {post : (Int32) → Prop}   {x0 : Int32} {h : AH}  (hw : w_X0_isBound post  x0) : VV l E X cX0_isBound RX0 "isBound" 1 r_X0_isBound (some .boolean) (vpi (fun (r : Int32) (h' : AH) => h' = h ∧ post r)) h 0 0 0 [(0, .int x0)] [] := by
  refine v_iload_n (q := 0) dX0_isBound_0 rfl rfl ?_
  refine v_i2l dX0_isBound_1 ?_
  refine v_lconst (v := lN 1) dX0_isBound_2 rfl ?_
  refine v_ldc2 (v := (lN 100)) dX0_isBound_3 q599 ?_
  refine v_callS q393 q394 q104 q395 n_X0_in ⟨Nat.le_of_ble_eq_true rfl, Nat.le_of_ble_eq_true rfl⟩ [.long ((x0).toInt64), .long (lN 1), .long (lN 100)] [] (met_X0_in hw) rfl (Nat.zero_le _) ⟨Nat.le_refl _, Nat.le_refl _⟩ dX0_isBound_6 rfl (v_ki (fun z_1 h1 hv => ?_))
  clear hw
  obtain ⟨e9, hw⟩ := hv
  refine v_heap e9 ?_
  clear e9
  obtain ⟨hn_2, hw⟩ := hw
  exact v_zret dX0_isBound_9 rfl (v_z1 hn_2).1 ⟨_, rfl, rfl, hw⟩
theorem met_X0_isBound {post : (Int32) → Prop}   {x0 : Int32} {h : AH}  (hw : w_X0_isBound post  x0) : Mt l E yX0_isBound (ws_ yX0_isBound cX0_isBound 1 (some .boolean)) r_X0_isBound [.int x0] h (vpi (fun (r : Int32) (h' : AH) => h' = h ∧ post r)) := v_entry (by decide +kernel) (Nat.le_of_ble_eq_true rfl) rfl (fun _ => e_X0_isBound hw)
/-! X0_pairs -/
abbrev r_X0_pairs : Room := { frames := 3, cells := 0, slots := 0, locals := 64 }
theorem n_X0_pairs : vdn yX0_pairs 3 := ⟨by decide +kernel, by decide +kernel, by decide +kernel⟩
def w_X0_pairs_153 (post : (AH) → Prop) (k13 : (Int32) → (AH) → Prop) (k63 : (Int32) → (Option Nat) → (Int32) → (AH) → Prop) (k79 : (Int32) → (Option Nat) → (Int32) → (Int32) → (AH) → Prop) (b0 : Nat) (x1 : Option Nat) (x2 : Int32) (x3 : Int32) (x4 : Int32) (x5 : Option Nat) (x6 : Int32) (x7 : Int32) (s0 : Int32) (s1 : Int32) (h : AH) : Prop :=
 (∃ fs_1 : List Value, h b0 = some (.inr (0, fs_1)) ∧ 19 < fs_1.length ∧ ∀ h_4 : AH, h_4 = va_up h b0 (some (.inr (0, fs_1.set 19 (.int (s1 + s0))))) → (∀ z_5 : Int32, z_5 = x7 + (nI 1) → (k79 x4 x5 x6 z_5 h_4)))
def w_X0_pairs_79 (post : (AH) → Prop) (k13 : (Int32) → (AH) → Prop) (k63 : (Int32) → (Option Nat) → (Int32) → (AH) → Prop) (b0 : Nat) (x1 : Option Nat) (x2 : Int32) (x3 : Int32) : Nat → (Int32) → (Option Nat) → (Int32) → (Int32) → (AH) → Prop
 | 0, _, _, _, _, _ => False
 | n0 + 1, x4, x5, x6, x7, h =>
 (∃ (fs_6 : List Value) (r_9 : Option Nat), h b0 = some (.inr (0, fs_6)) ∧ fs_6[1]? = some (va_rf r_9) ∧ (∃ a_10 : Nat, r_9 = some a_10 ∧ (∃ (fs_11 : List Value) (r_14 : Option Nat), h a_10 = some (.inr (1, fs_11)) ∧ fs_11[5]? = some (va_rf r_14) ∧ (∃ a_15 : Nat, r_14 = some a_15 ∧ (∃ fs_74 : List Value, h a_15 = some (.inr (2, fs_74)) ∧ (w_J2_size (fun (z_16 : Int32) => ((z_16 ≤ x7 → (∀ z_21 : Int32, z_21 = x6 + (nI 1) → (k63 x4 x5 z_21 h))) ∧ (¬ z_16 ≤ x7 → (∃ (fs_22 : List Value) (z_25 : Int32), h b0 = some (.inr (0, fs_22)) ∧ fs_22[18]? = some (.int z_25) ∧ (∃ fs_26 : List Value, h b0 = some (.inr (0, fs_26)) ∧ 18 < fs_26.length ∧ ∀ h_29 : AH, h_29 = va_up h b0 (some (.inr (0, fs_26.set 18 (.int (z_25 + (nI 1)))))) → (∃ (fs_30 : List Value) (z_33 : Int32), h_29 b0 = some (.inr (0, fs_30)) ∧ fs_30[19]? = some (.int z_33) ∧ (∃ (fs_34 : List Value) (r_37 : Option Nat), h_29 b0 = some (.inr (0, fs_34)) ∧ fs_34[1]? = some (va_rf r_37) ∧ (∃ a_38 : Nat, r_37 = some a_38 ∧ (∃ (fs_39 : List Value) (r_42 : Option Nat), h_29 a_38 = some (.inr (1, fs_39)) ∧ fs_39[5]? = some (va_rf r_42) ∧ (∃ a_43 : Nat, r_42 = some a_43 ∧ (∃ fs_72 : List Value, h_29 a_43 = some (.inr (2, fs_72)) ∧ (w_J2_get (fun (r_44 : Option Nat) => (∃ a_45 : Nat, r_44 = some a_45 ∧ (∃ fs_46 : List Value, h_29 a_45 = some (.inr (10, fs_46)) ∧ (∃ (fs_48 : List Value) (r_51 : Option Nat), h_29 a_45 = some (.inr (10, fs_48)) ∧ fs_48[0]? = some (va_rf r_51) ∧ (∃ a_52 : Nat, x5 = some a_52 ∧ (∃ (fs_53 : List Value) (r_56 : Option Nat), h_29 a_52 = some (.inr (8, fs_53)) ∧ fs_53[4]? = some (va_rf r_56) ∧ (∃ a_57 : Nat, r_56 = some a_57 ∧ (∃ fs_70 : List Value, h_29 a_57 = some (.inr (2, fs_70)) ∧ (w_J2_get (fun (r_58 : Option Nat) => (∃ a_59 : Nat, r_58 = some a_59 ∧ (∃ fs_60 : List Value, h_29 a_59 = some (.inr (9, fs_60)) ∧ (∃ fs_68 : List Value, h_29 b0 = some (.inr (0, fs_68)) ∧ (w_X0_likeness (fun (z_62 : Int32) (h_63 : AH) => ((z_62 < x3 → (w_X0_pairs_153 post k13 k63 (fun (q0 : Int32) (q1 : Option Nat) (q2 : Int32) (q3 : Int32) (q4 : AH) => w_X0_pairs_79 post k13 k63 b0 x1 x2 x3 n0 q0 q1 q2 q3 q4) b0 x1 x2 x3 x4 (some a_52) x6 x7 (nI 0) z_33 h_63)) ∧ (¬ z_62 < x3 → (w_X0_pairs_153 post k13 k63 (fun (q0 : Int32) (q1 : Option Nat) (q2 : Int32) (q3 : Int32) (q4 : AH) => w_X0_pairs_79 post k13 k63 b0 x1 x2 x3 n0 q0 q1 q2 q3 q4) b0 x1 x2 x3 x4 (some a_52) x6 x7 (nI 1) z_33 h_63)))) b0 r_51 (some a_59) h_29))))) a_57 x6 h_29))))))))) a_43 x7 h_29)))))))))))) a_15 h))))))
def w_X0_pairs_169 (post : (AH) → Prop) (k13 : (Int32) → (AH) → Prop) (b0 : Nat) (x1 : Option Nat) (x2 : Int32) (x3 : Int32) (x4 : Int32) (h : AH) : Prop :=
 (∀ z_76 : Int32, z_76 = x4 + (nI 1) → (k13 z_76 h))
def w_X0_pairs_63 (post : (AH) → Prop) (k13 : (Int32) → (AH) → Prop) (b0 : Nat) (x1 : Option Nat) (x2 : Int32) (x3 : Int32) : Nat → (Int32) → (Option Nat) → (Int32) → (AH) → Prop
 | 0, _, _, _, _ => False
 | n0 + 1, x4, x5, x6, h =>
 (∃ a_77 : Nat, x5 = some a_77 ∧ (∃ (fs_78 : List Value) (r_81 : Option Nat), h a_77 = some (.inr (8, fs_78)) ∧ fs_78[4]? = some (va_rf r_81) ∧ (∃ a_82 : Nat, r_81 = some a_82 ∧ (∃ fs_89 : List Value, h a_82 = some (.inr (2, fs_89)) ∧ (w_J2_size (fun (z_83 : Int32) => ((z_83 ≤ x6 → (w_X0_pairs_169 post k13 b0 x1 x2 x3 x4 h)) ∧ (¬ z_83 ≤ x6 → (∃ n1 : Nat, (w_X0_pairs_79 post k13 (fun (q0 : Int32) (q1 : Option Nat) (q2 : Int32) (q3 : AH) => w_X0_pairs_63 post k13 b0 x1 x2 x3 n0 q0 q1 q2 q3) b0 x1 x2 x3 n1 x4 (some a_77) x6 (nI 0) h))))) a_82 h)))))
def w_X0_pairs_60 (post : (AH) → Prop) (k13 : (Int32) → (AH) → Prop) (b0 : Nat) (x1 : Option Nat) (x2 : Int32) (x3 : Int32) (x4 : Int32) (x5 : Option Nat) (h : AH) : Prop :=
 (∃ n1 : Nat, (w_X0_pairs_63 post k13 b0 x1 x2 x3 n1 x4 x5 (nI 0) h))
def w_X0_pairs_13 (post : (AH) → Prop) (b0 : Nat) (x1 : Option Nat) (x2 : Int32) (x3 : Int32) : Nat → (Int32) → (AH) → Prop
 | 0, _, _ => False
 | n0 + 1, x4, h =>
 (∃ a_92 : Nat, x1 = some a_92 ∧ (∃ fs_123 : List Value, h a_92 = some (.inr (2, fs_123)) ∧ (w_J2_size (fun (z_93 : Int32) => ((z_93 ≤ x4 → (post h)) ∧ (¬ z_93 ≤ x4 → (∃ fs_121 : List Value, h a_92 = some (.inr (2, fs_121)) ∧ (w_J2_get (fun (r_98 : Option Nat) => (∃ a_99 : Nat, r_98 = some a_99 ∧ (∃ fs_100 : List Value, h a_99 = some (.inr (8, fs_100)) ∧ ((x2 = 0 → (∃ (fs_106 : List Value) (z_109 : Int32), h a_99 = some (.inr (8, fs_106)) ∧ fs_106[0]? = some (.int z_109) ∧ ((¬ z_109 = 0 → (w_X0_pairs_60 post (fun (q0 : Int32) (q1 : AH) => w_X0_pairs_13 post b0 x1 x2 x3 n0 q0 q1) b0 x1 x2 x3 x4 (some a_99) h)) ∧ (z_109 = 0 → (w_X0_pairs_169 post (fun (q0 : Int32) (q1 : AH) => w_X0_pairs_13 post b0 x1 x2 x3 n0 q0 q1) b0 x1 x2 x3 x4 h))))) ∧ (¬ x2 = 0 → (∃ fs_119 : List Value, h b0 = some (.inr (0, fs_119)) ∧ (w_X0_isEarly (fun (z_114 : Int32) => ((¬ z_114 = 0 → (w_X0_pairs_60 post (fun (q0 : Int32) (q1 : AH) => w_X0_pairs_13 post b0 x1 x2 x3 n0 q0 q1) b0 x1 x2 x3 x4 (some a_99) h)) ∧ (z_114 = 0 → (w_X0_pairs_169 post (fun (q0 : Int32) (q1 : AH) => w_X0_pairs_13 post b0 x1 x2 x3 n0 q0 q1) b0 x1 x2 x3 x4 h)))) b0 (some a_99) h))))))) a_92 x4 h))))) a_92 h)))
def w_X0_pairs (post : (AH) → Prop) (b0 : Nat) (x1 : Option Nat) (x2 : Int32) (x3 : Int32) (h : AH) : Prop :=
 (∃ fs_125 : List Value, h b0 = some (.inr (0, fs_125)) ∧ 18 < fs_125.length ∧ ∀ h_128 : AH, h_128 = va_up h b0 (some (.inr (0, fs_125.set 18 (.int (nI 0))))) → (∃ fs_129 : List Value, h_128 b0 = some (.inr (0, fs_129)) ∧ 19 < fs_129.length ∧ ∀ h_132 : AH, h_132 = va_up h_128 b0 (some (.inr (0, fs_129.set 19 (.int (nI 0))))) → (∃ n1 : Nat, (w_X0_pairs_13 post b0 x1 x2 x3 n1 (nI 0) h_132))))
theorem b_X0_pairs_153 {post : (AH) → Prop}   {b0 : Nat} {x1 : Option Nat} {x2 : Int32} {x3 : Int32} {k13 : (Int32) → (AH) → Prop} {k63 : (Int32) → (Option Nat) → (Int32) → (AH) → Prop} {k79 : (Int32) → (Option Nat) → (Int32) → (Int32) → (AH) → Prop}  (hk13 : ∀ (x4 : Int32) (h : AH), k13 x4 h → VV l E X cX0_pairs RX0 "pairs" 8 r_X0_pairs none (vpv (fun (h' : AH) => post h')) h 0 0 13 [(0, va_rf (some b0)), (1, va_rf x1), (2, .int x2), (3, .int x3), (4, .int x4)] []) (hk63 : ∀ (x4 : Int32) (x5 : Option Nat) (x6 : Int32) (h : AH), k63 x4 x5 x6 h → VV l E X cX0_pairs RX0 "pairs" 8 r_X0_pairs none (vpv (fun (h' : AH) => post h')) h 0 0 63 [(0, va_rf (some b0)), (1, va_rf x1), (2, .int x2), (3, .int x3), (4, .int x4), (5, va_rf x5), (6, .int x6)] []) (hk79 : ∀ (x4 : Int32) (x5 : Option Nat) (x6 : Int32) (x7 : Int32) (h : AH), k79 x4 x5 x6 x7 h → VV l E X cX0_pairs RX0 "pairs" 8 r_X0_pairs none (vpv (fun (h' : AH) => post h')) h 0 0 79 [(0, va_rf (some b0)), (1, va_rf x1), (2, .int x2), (3, .int x3), (4, .int x4), (5, va_rf x5), (6, .int x6), (7, .int x7)] []) (x4 : Int32) (x5 : Option Nat) (x6 : Int32) (x7 : Int32) (s0 : Int32) (s1 : Int32) (h : AH) (hw : w_X0_pairs_153 post k13 k63 k79 b0 x1 x2 x3 x4 x5 x6 x7 s0 s1 h) : VV l E X cX0_pairs RX0 "pairs" 8 r_X0_pairs none (vpv (fun (h' : AH) => post h')) h 0 0 153 [(0, va_rf (some b0)), (1, va_rf x1), (2, .int x2), (3, .int x3), (4, .int x4), (5, va_rf x5), (6, .int x6), (7, .int x7)] [.int s0, .int s1, va_rf (some b0)] := by
  refine v_iadd dX0_pairs_153 ?_
  obtain ⟨fs_1, e_2, e_3, hw⟩ := hw
  obtain ⟨h_4, eh_4⟩ : ∃ z9 : AH, z9 = va_up h b0 (some (.inr (0, fs_1.set 19 (.int (s1 + s0))))) := ⟨_, rfl⟩
  replace hw := hw h_4 eh_4
  refine v_put in_X0 (ci := 0) rfl 19 (Nat.le_of_ble_eq_true rfl) tyX0 tyX0_ok nmX0 q338 rfl rfl rfl rfl rfl dX0_pairs_154 e_2 e_3 ?_
  rw [← eh_4]
  obtain ⟨z_5, e_5⟩ : ∃ z9 : Int32, z9 = x7 + (nI 1) := ⟨_, rfl⟩
  replace hw := hw z_5 e_5
  refine v_iinc (q := 7) (v := z_5) (lv1 := [(7, .int z_5), (0, va_rf (some b0)), (1, va_rf x1), (2, .int x2), (3, .int x3), (4, .int x4), (5, va_rf x5), (6, .int x6)]) dX0_pairs_157 rfl (by rw [e_5, ic_1]) (Nat.le_of_ble_eq_true rfl) rfl ?_
  refine v_goto (tgt := 79) dX0_pairs_160 (by decide) ?_
  refine v_sub [1, 2, 3, 4, 5, 6, 7, 0] rfl ?_
  exact hk79 x4 x5 x6 z_5 h_4 hw
theorem b_X0_pairs_79 {post : (AH) → Prop}   {b0 : Nat} {x1 : Option Nat} {x2 : Int32} {x3 : Int32} {k13 : (Int32) → (AH) → Prop} {k63 : (Int32) → (Option Nat) → (Int32) → (AH) → Prop}  (hk13 : ∀ (x4 : Int32) (h : AH), k13 x4 h → VV l E X cX0_pairs RX0 "pairs" 8 r_X0_pairs none (vpv (fun (h' : AH) => post h')) h 0 0 13 [(0, va_rf (some b0)), (1, va_rf x1), (2, .int x2), (3, .int x3), (4, .int x4)] []) (hk63 : ∀ (x4 : Int32) (x5 : Option Nat) (x6 : Int32) (h : AH), k63 x4 x5 x6 h → VV l E X cX0_pairs RX0 "pairs" 8 r_X0_pairs none (vpv (fun (h' : AH) => post h')) h 0 0 63 [(0, va_rf (some b0)), (1, va_rf x1), (2, .int x2), (3, .int x3), (4, .int x4), (5, va_rf x5), (6, .int x6)] []) : ∀ (n0 : Nat) (x4 : Int32) (x5 : Option Nat) (x6 : Int32) (x7 : Int32) (h : AH), w_X0_pairs_79 post k13 k63 b0 x1 x2 x3 n0 x4 x5 x6 x7 h → VV l E X cX0_pairs RX0 "pairs" 8 r_X0_pairs none (vpv (fun (h' : AH) => post h')) h 0 0 79 [(0, va_rf (some b0)), (1, va_rf x1), (2, .int x2), (3, .int x3), (4, .int x4), (5, va_rf x5), (6, .int x6), (7, .int x7)] [] := by
  intro n0
  induction n0 with
  | zero =>
    intro x4 x5 x6 x7 h hw
    exact hw.elim
  | succ n0 ih =>
    intro x4 x5 x6 x7 h hw
    refine v_iload (q := 7) dX0_pairs_79 rfl ?_
    refine v_aload_n (q := 0) dX0_pairs_81 rfl rfl ?_
    obtain ⟨fs_6, r_9, e_7, e_8, hw⟩ := hw
    refine v_get in_X0 (ci := 0) rfl 1 (Nat.le_of_ble_eq_true rfl) q319 rfl dX0_pairs_82 e_7 e_8 ?_
    obtain ⟨a_10, ea_10, hw⟩ := hw
    subst ea_10
    obtain ⟨fs_11, r_14, e_12, e_13, hw⟩ := hw
    refine v_getN in_X1 (ci := 1) rfl 5 (Nat.le_of_ble_eq_true rfl) q230 rfl dX0_pairs_85 e_12 e_13 ?_
    obtain ⟨a_15, ea_15, hw⟩ := hw
    subst ea_15
    obtain ⟨fs_74, e_75, hw⟩ := hw
    refine v_callV q413 q414 q415 q108 q416 (ci := 2) rfl e_75 n_J2_size ⟨Nat.le_of_ble_eq_true rfl, Nat.le_of_ble_eq_true rfl⟩ [] [.int x7] (met_J2_size hw) rfl (Nat.le_of_ble_eq_true rfl) ⟨Nat.le_refl _, Nat.le_refl _⟩ dX0_pairs_88 rfl (v_ki (fun z_16 h1 hv => ?_))
    clear hw
    obtain ⟨e9, hw⟩ := hv
    refine v_heap e9 ?_
    clear e9
    obtain ⟨hw_19, hw_20⟩ := hw
    refine v_icmp_ge (tgt := 163) dX0_pairs_91 (by decide) (fun c_17 => ?_) (fun c_18 => ?_)
    · have hw := hw_19 c_17
      obtain ⟨z_21, e_21⟩ : ∃ z9 : Int32, z9 = x6 + (nI 1) := ⟨_, rfl⟩
      replace hw := hw z_21 e_21
      refine v_iinc (q := 6) (v := z_21) (lv1 := [(6, .int z_21), (0, va_rf (some b0)), (1, va_rf x1), (2, .int x2), (3, .int x3), (4, .int x4), (5, va_rf x5), (7, .int x7)]) dX0_pairs_163 rfl (by rw [e_21, ic_1]) (Nat.le_of_ble_eq_true rfl) (by cases x5 <;> rfl) ?_
      refine v_goto (tgt := 63) dX0_pairs_166 (by decide) ?_
      refine v_sub [1, 2, 3, 4, 5, 6, 0] rfl ?_
      exact hk63 x4 x5 z_21 h hw
    · have hw := hw_20 c_18
      refine v_aload_n (q := 0) dX0_pairs_94 rfl rfl ?_
      refine v_dup dX0_pairs_95 (v_rf1 _) ?_
      obtain ⟨fs_22, z_25, e_23, e_24, hw⟩ := hw
      refine v_get in_X0 (ci := 0) rfl 18 (Nat.le_of_ble_eq_true rfl) q337 rfl dX0_pairs_96 e_23 e_24 ?_
      refine v_iconst dX0_pairs_99 ic_1 ?_
      refine v_iadd dX0_pairs_100 ?_
      obtain ⟨fs_26, e_27, e_28, hw⟩ := hw
      obtain ⟨h_29, eh_29⟩ : ∃ z9 : AH, z9 = va_up h b0 (some (.inr (0, fs_26.set 18 (.int (z_25 + (nI 1)))))) := ⟨_, rfl⟩
      replace hw := hw h_29 eh_29
      refine v_put in_X0 (ci := 0) rfl 18 (Nat.le_of_ble_eq_true rfl) tyX0 tyX0_ok nmX0 q337 rfl rfl rfl rfl rfl dX0_pairs_101 e_27 e_28 ?_
      rw [← eh_29]
      refine v_aload_n (q := 0) dX0_pairs_104 rfl rfl ?_
      refine v_dup dX0_pairs_105 (v_rf1 _) ?_
      obtain ⟨fs_30, z_33, e_31, e_32, hw⟩ := hw
      refine v_get in_X0 (ci := 0) rfl 19 (Nat.le_of_ble_eq_true rfl) q338 rfl dX0_pairs_106 e_31 e_32 ?_
      refine v_aload_n (q := 0) dX0_pairs_109 rfl rfl ?_
      refine v_aload_n (q := 0) dX0_pairs_110 rfl rfl ?_
      obtain ⟨fs_34, r_37, e_35, e_36, hw⟩ := hw
      refine v_get in_X0 (ci := 0) rfl 1 (Nat.le_of_ble_eq_true rfl) q319 rfl dX0_pairs_111 e_35 e_36 ?_
      obtain ⟨a_38, ea_38, hw⟩ := hw
      subst ea_38
      obtain ⟨fs_39, r_42, e_40, e_41, hw⟩ := hw
      refine v_getN in_X1 (ci := 1) rfl 5 (Nat.le_of_ble_eq_true rfl) q230 rfl dX0_pairs_114 e_40 e_41 ?_
      refine v_iload (q := 7) dX0_pairs_117 rfl ?_
      obtain ⟨a_43, ea_43, hw⟩ := hw
      subst ea_43
      obtain ⟨fs_72, e_73, hw⟩ := hw
      refine v_callV q577 q578 q579 q108 q580 (ci := 2) rfl e_73 n_J2_get ⟨Nat.le_of_ble_eq_true rfl, Nat.le_of_ble_eq_true rfl⟩ [.int x7] [va_rf (some b0), .int z_33, va_rf (some b0)] (met_J2_get hw) rfl (by simp only [List.map_cons, List.map_nil, List.sum_cons, List.sum_nil, v_rf1, v_cI, v_cJ]; decide) ⟨Nat.le_refl _, Nat.le_refl _⟩ dX0_pairs_119 rfl (v_kq (fun r_44 h1 hv => ?_))
      clear hw
      obtain ⟨e9, hw⟩ := hv
      refine v_heap e9 ?_
      clear e9
      obtain ⟨a_45, ea_45, hw⟩ := hw
      subst ea_45
      obtain ⟨fs_46, e_47, hw⟩ := hw
      refine v_cast (ci := 10) rfl q562 dX0_pairs_122 e_47 ?_
      obtain ⟨fs_48, r_51, e_49, e_50, hw⟩ := hw
      refine v_getN in_X9 (ci := 10) rfl 0 (Nat.le_of_ble_eq_true rfl) q569 rfl dX0_pairs_125 e_49 e_50 ?_
      refine v_aload (q := 5) dX0_pairs_128 rfl ?_
      obtain ⟨a_52, ea_52, hw⟩ := hw
      subst ea_52
      obtain ⟨fs_53, r_56, e_54, e_55, hw⟩ := hw
      refine v_getN in_X7 (ci := 8) rfl 4 (Nat.le_of_ble_eq_true rfl) q433 rfl dX0_pairs_130 e_54 e_55 ?_
      refine v_iload (q := 6) dX0_pairs_133 rfl ?_
      obtain ⟨a_57, ea_57, hw⟩ := hw
      subst ea_57
      obtain ⟨fs_70, e_71, hw⟩ := hw
      refine v_callV q577 q578 q579 q108 q580 (ci := 2) rfl e_71 n_J2_get ⟨Nat.le_of_ble_eq_true rfl, Nat.le_of_ble_eq_true rfl⟩ [.int x6] [va_rf r_51, va_rf (some b0), .int z_33, va_rf (some b0)] (met_J2_get hw) rfl (by simp only [List.map_cons, List.map_nil, List.sum_cons, List.sum_nil, v_rf1, v_cI, v_cJ]; decide) ⟨Nat.le_refl _, Nat.le_refl _⟩ dX0_pairs_135 rfl (v_kq (fun r_58 h1 hv => ?_))
      clear hw
      obtain ⟨e9, hw⟩ := hv
      refine v_heap e9 ?_
      clear e9
      obtain ⟨a_59, ea_59, hw⟩ := hw
      subst ea_59
      obtain ⟨fs_60, e_61, hw⟩ := hw
      refine v_cast (ci := 9) rfl q304 dX0_pairs_138 e_61 ?_
      obtain ⟨fs_68, e_69, hw⟩ := hw
      refine v_callV q621 q623 qs8 q104 q624 (ci := 0) rfl e_69 n_X0_likeness ⟨Nat.le_of_ble_eq_true rfl, Nat.le_of_ble_eq_true rfl⟩ [va_rf r_51, va_rf (some a_59)] [.int z_33, va_rf (some b0)] (met_X0_likeness hw) rfl (by simp only [List.map_cons, List.map_nil, List.sum_cons, List.sum_nil, v_rf1, v_cI, v_cJ]; decide) ⟨Nat.le_refl _, Nat.le_refl _⟩ dX0_pairs_141 rfl (v_ki (fun z_62 h_63 hv => ?_))
      clear hw
      have hw := hv
      clear hv
      refine v_iload_n (q := 3) dX0_pairs_144 rfl rfl ?_
      obtain ⟨hw_66, hw_67⟩ := hw
      refine v_icmp_lt (tgt := 152) dX0_pairs_145 (by decide) (fun c_64 => ?_) (fun c_65 => ?_)
      · have hw := hw_66 c_64
        refine v_iconst dX0_pairs_152 ic_0 ?_
        refine v_sub [0, 1, 2, 3, 4, 5, 6, 7] rfl ?_
        exact b_X0_pairs_153 hk13 hk63 (fun q0 q1 q2 q3 q4 z => ih q0 q1 q2 q3 q4 z) x4 (some a_52) x6 x7 (nI 0) z_33 h_63 hw
      · have hw := hw_67 c_65
        refine v_iconst dX0_pairs_148 ic_1 ?_
        refine v_goto (tgt := 153) dX0_pairs_149 (by decide) ?_
        refine v_sub [0, 1, 2, 3, 4, 5, 6, 7] rfl ?_
        exact b_X0_pairs_153 hk13 hk63 (fun q0 q1 q2 q3 q4 z => ih q0 q1 q2 q3 q4 z) x4 (some a_52) x6 x7 (nI 1) z_33 h_63 hw
theorem b_X0_pairs_169 {post : (AH) → Prop}   {b0 : Nat} {x1 : Option Nat} {x2 : Int32} {x3 : Int32} {k13 : (Int32) → (AH) → Prop}  (hk13 : ∀ (x4 : Int32) (h : AH), k13 x4 h → VV l E X cX0_pairs RX0 "pairs" 8 r_X0_pairs none (vpv (fun (h' : AH) => post h')) h 0 0 13 [(0, va_rf (some b0)), (1, va_rf x1), (2, .int x2), (3, .int x3), (4, .int x4)] []) (x4 : Int32) (h : AH) (hw : w_X0_pairs_169 post k13 b0 x1 x2 x3 x4 h) : VV l E X cX0_pairs RX0 "pairs" 8 r_X0_pairs none (vpv (fun (h' : AH) => post h')) h 0 0 169 [(0, va_rf (some b0)), (1, va_rf x1), (2, .int x2), (3, .int x3), (4, .int x4)] [] := by
  obtain ⟨z_76, e_76⟩ : ∃ z9 : Int32, z9 = x4 + (nI 1) := ⟨_, rfl⟩
  replace hw := hw z_76 e_76
  refine v_iinc (q := 4) (v := z_76) (lv1 := [(4, .int z_76), (0, va_rf (some b0)), (1, va_rf x1), (2, .int x2), (3, .int x3)]) dX0_pairs_169 rfl (by rw [e_76, ic_1]) (Nat.le_of_ble_eq_true rfl) rfl ?_
  refine v_goto (tgt := 13) dX0_pairs_172 (by decide) ?_
  refine v_sub [1, 2, 3, 4, 0] rfl ?_
  exact hk13 z_76 h hw
theorem b_X0_pairs_63 {post : (AH) → Prop}   {b0 : Nat} {x1 : Option Nat} {x2 : Int32} {x3 : Int32} {k13 : (Int32) → (AH) → Prop}  (hk13 : ∀ (x4 : Int32) (h : AH), k13 x4 h → VV l E X cX0_pairs RX0 "pairs" 8 r_X0_pairs none (vpv (fun (h' : AH) => post h')) h 0 0 13 [(0, va_rf (some b0)), (1, va_rf x1), (2, .int x2), (3, .int x3), (4, .int x4)] []) : ∀ (n0 : Nat) (x4 : Int32) (x5 : Option Nat) (x6 : Int32) (h : AH), w_X0_pairs_63 post k13 b0 x1 x2 x3 n0 x4 x5 x6 h → VV l E X cX0_pairs RX0 "pairs" 8 r_X0_pairs none (vpv (fun (h' : AH) => post h')) h 0 0 63 [(0, va_rf (some b0)), (1, va_rf x1), (2, .int x2), (3, .int x3), (4, .int x4), (5, va_rf x5), (6, .int x6)] [] := by
  intro n0
  induction n0 with
  | zero =>
    intro x4 x5 x6 h hw
    exact hw.elim
  | succ n0 ih =>
    intro x4 x5 x6 h hw
    refine v_iload (q := 6) dX0_pairs_63 rfl ?_
    refine v_aload (q := 5) dX0_pairs_65 rfl ?_
    obtain ⟨a_77, ea_77, hw⟩ := hw
    subst ea_77
    obtain ⟨fs_78, r_81, e_79, e_80, hw⟩ := hw
    refine v_getN in_X7 (ci := 8) rfl 4 (Nat.le_of_ble_eq_true rfl) q433 rfl dX0_pairs_67 e_79 e_80 ?_
    obtain ⟨a_82, ea_82, hw⟩ := hw
    subst ea_82
    obtain ⟨fs_89, e_90, hw⟩ := hw
    refine v_callV q413 q414 q415 q108 q416 (ci := 2) rfl e_90 n_J2_size ⟨Nat.le_of_ble_eq_true rfl, Nat.le_of_ble_eq_true rfl⟩ [] [.int x6] (met_J2_size hw) rfl (Nat.le_of_ble_eq_true rfl) ⟨Nat.le_refl _, Nat.le_refl _⟩ dX0_pairs_70 rfl (v_ki (fun z_83 h1 hv => ?_))
    clear hw
    obtain ⟨e9, hw⟩ := hv
    refine v_heap e9 ?_
    clear e9
    obtain ⟨hw_86, hw_87⟩ := hw
    refine v_icmp_ge (tgt := 169) dX0_pairs_73 (by decide) (fun c_84 => ?_) (fun c_85 => ?_)
    · have hw := hw_86 c_84
      refine v_sub [0, 1, 2, 3, 4] rfl ?_
      exact b_X0_pairs_169 hk13 x4 h hw
    · have hw := hw_87 c_85
      refine v_iconst dX0_pairs_76 ic_0 ?_
      refine v_istore (lv1 := [(7, .int (nI 0)), (0, va_rf (some b0)), (1, va_rf x1), (2, .int x2), (3, .int x3), (4, .int x4), (5, va_rf (some a_77)), (6, .int x6)]) dX0_pairs_77 (Nat.le_of_ble_eq_true rfl) rfl ?_
      obtain ⟨n_88, hw⟩ := hw
      refine v_sub [1, 2, 3, 4, 5, 6, 7, 0] rfl ?_
      exact b_X0_pairs_79 hk13 (fun q0 q1 q2 q3 z => ih q0 q1 q2 q3 z) n_88 x4 (some a_77) x6 (nI 0) h hw
theorem b_X0_pairs_60 {post : (AH) → Prop}   {b0 : Nat} {x1 : Option Nat} {x2 : Int32} {x3 : Int32} {k13 : (Int32) → (AH) → Prop}  (hk13 : ∀ (x4 : Int32) (h : AH), k13 x4 h → VV l E X cX0_pairs RX0 "pairs" 8 r_X0_pairs none (vpv (fun (h' : AH) => post h')) h 0 0 13 [(0, va_rf (some b0)), (1, va_rf x1), (2, .int x2), (3, .int x3), (4, .int x4)] []) (x4 : Int32) (x5 : Option Nat) (h : AH) (hw : w_X0_pairs_60 post k13 b0 x1 x2 x3 x4 x5 h) : VV l E X cX0_pairs RX0 "pairs" 8 r_X0_pairs none (vpv (fun (h' : AH) => post h')) h 0 0 60 [(0, va_rf (some b0)), (1, va_rf x1), (2, .int x2), (3, .int x3), (4, .int x4), (5, va_rf x5)] [] := by
  refine v_iconst dX0_pairs_60 ic_0 ?_
  refine v_istore (lv1 := [(6, .int (nI 0)), (0, va_rf (some b0)), (1, va_rf x1), (2, .int x2), (3, .int x3), (4, .int x4), (5, va_rf x5)]) dX0_pairs_61 (Nat.le_of_ble_eq_true rfl) (by cases x5 <;> rfl) ?_
  obtain ⟨n_91, hw⟩ := hw
  refine v_sub [1, 2, 3, 4, 5, 6, 0] rfl ?_
  exact b_X0_pairs_63 hk13 n_91 x4 x5 (nI 0) h hw
theorem b_X0_pairs_13 {post : (AH) → Prop}   {b0 : Nat} {x1 : Option Nat} {x2 : Int32} {x3 : Int32}    : ∀ (n0 : Nat) (x4 : Int32) (h : AH), w_X0_pairs_13 post b0 x1 x2 x3 n0 x4 h → VV l E X cX0_pairs RX0 "pairs" 8 r_X0_pairs none (vpv (fun (h' : AH) => post h')) h 0 0 13 [(0, va_rf (some b0)), (1, va_rf x1), (2, .int x2), (3, .int x3), (4, .int x4)] [] := by
  intro n0
  induction n0 with
  | zero =>
    intro x4 h hw
    exact hw.elim
  | succ n0 ih =>
    intro x4 h hw
    refine v_iload (q := 4) dX0_pairs_13 rfl ?_
    refine v_aload_n (q := 1) dX0_pairs_15 rfl rfl ?_
    obtain ⟨a_92, ea_92, hw⟩ := hw
    subst ea_92
    obtain ⟨fs_123, e_124, hw⟩ := hw
    refine v_callV q413 q414 q415 q108 q416 (ci := 2) rfl e_124 n_J2_size ⟨Nat.le_of_ble_eq_true rfl, Nat.le_of_ble_eq_true rfl⟩ [] [.int x4] (met_J2_size hw) rfl (Nat.le_of_ble_eq_true rfl) ⟨Nat.le_refl _, Nat.le_refl _⟩ dX0_pairs_16 rfl (v_ki (fun z_93 h1 hv => ?_))
    clear hw
    obtain ⟨e9, hw⟩ := hv
    refine v_heap e9 ?_
    clear e9
    obtain ⟨hw_96, hw_97⟩ := hw
    refine v_icmp_ge (tgt := 175) dX0_pairs_19 (by decide) (fun c_94 => ?_) (fun c_95 => ?_)
    · have hw := hw_96 c_94
      exact v_vret dX0_pairs_175 rfl ⟨rfl, hw⟩
    · have hw := hw_97 c_95
      refine v_aload_n (q := 1) dX0_pairs_22 rfl rfl ?_
      refine v_iload (q := 4) dX0_pairs_23 rfl ?_
      obtain ⟨fs_121, e_122, hw⟩ := hw
      refine v_callV q577 q578 q579 q108 q580 (ci := 2) rfl e_122 n_J2_get ⟨Nat.le_of_ble_eq_true rfl, Nat.le_of_ble_eq_true rfl⟩ [.int x4] [] (met_J2_get hw) rfl (Nat.zero_le _) ⟨Nat.le_refl _, Nat.le_refl _⟩ dX0_pairs_25 rfl (v_kq (fun r_98 h1 hv => ?_))
      clear hw
      obtain ⟨e9, hw⟩ := hv
      refine v_heap e9 ?_
      clear e9
      obtain ⟨a_99, ea_99, hw⟩ := hw
      subst ea_99
      obtain ⟨fs_100, e_101, hw⟩ := hw
      refine v_cast (ci := 8) rfl q417 dX0_pairs_28 e_101 ?_
      refine v_astore (lv1 := [(5, va_rf (some a_99)), (0, va_rf (some b0)), (1, va_rf (some a_92)), (2, .int x2), (3, .int x3), (4, .int x4)]) dX0_pairs_31 (Nat.le_of_ble_eq_true rfl) rfl ?_
      refine v_iload_n (q := 3) dX0_pairs_33 rfl rfl ?_
      obtain ⟨hw_104, hw_105⟩ := hw
      refine v_if_eq (tgt := 49) dX0_pairs_34 (by decide) (fun c_102 => ?_) (fun c_103 => ?_)
      · have hw := hw_104 c_102
        refine v_aload (q := 0) dX0_pairs_49 rfl ?_
        obtain ⟨fs_106, z_109, e_107, e_108, hw⟩ := hw
        refine v_getN in_X7 (ci := 8) rfl 0 (Nat.le_of_ble_eq_true rfl) q426 rfl dX0_pairs_51 e_107 e_108 ?_
        obtain ⟨hw_112, hw_113⟩ := hw
        refine v_if_ne (tgt := 60) dX0_pairs_54 (by decide) (fun c_110 => ?_) (fun c_111 => ?_)
        · have hw := hw_112 c_110
          refine v_sub [1, 2, 3, 4, 5, 0] rfl ?_
          exact b_X0_pairs_60 (fun q0 q1 z => ih q0 q1 z) x4 (some a_99) h hw
        · have hw := hw_113 c_111
          refine v_goto (tgt := 169) dX0_pairs_57 (by decide) ?_
          refine v_sub [1, 2, 3, 4, 5] rfl ?_
          exact b_X0_pairs_169 (fun q0 q1 z => ih q0 q1 z) x4 h hw
      · have hw := hw_105 c_103
        refine v_aload_n (q := 1) dX0_pairs_37 rfl rfl ?_
        refine v_aload (q := 0) dX0_pairs_38 rfl ?_
        obtain ⟨fs_119, e_120, hw⟩ := hw
        refine v_callV q1015 q1017 qs33 q104 q1018 (ci := 0) rfl e_120 n_X0_isEarly ⟨Nat.le_of_ble_eq_true rfl, Nat.le_of_ble_eq_true rfl⟩ [va_rf (some a_99)] [] (met_X0_isEarly hw) rfl (Nat.zero_le _) ⟨Nat.le_refl _, Nat.le_refl _⟩ dX0_pairs_40 rfl (v_ki (fun z_114 h1 hv => ?_))
        clear hw
        obtain ⟨e9, hw⟩ := hv
        refine v_heap e9 ?_
        clear e9
        obtain ⟨hw_117, hw_118⟩ := hw
        refine v_if_ne (tgt := 60) dX0_pairs_43 (by decide) (fun c_115 => ?_) (fun c_116 => ?_)
        · have hw := hw_117 c_115
          refine v_sub [1, 2, 3, 4, 5, 0] rfl ?_
          exact b_X0_pairs_60 (fun q0 q1 z => ih q0 q1 z) x4 (some a_99) h hw
        · have hw := hw_118 c_116
          refine v_goto (tgt := 169) dX0_pairs_46 (by decide) ?_
          refine v_sub [1, 2, 3, 4, 5] rfl ?_
          exact b_X0_pairs_169 (fun q0 q1 z => ih q0 q1 z) x4 h hw
theorem e_X0_pairs {post : (AH) → Prop}   {b0 : Nat} {x1 : Option Nat} {x2 : Int32} {x3 : Int32} {h : AH}  (hw : w_X0_pairs post  b0 x1 x2 x3 h) : VV l E X cX0_pairs RX0 "pairs" 8 r_X0_pairs none (vpv (fun (h' : AH) => post h')) h 0 0 0 [(0, va_rf (some b0)), (1, va_rf x1), (2, .int x2), (3, .int x3)] [] := by
  refine v_aload_n (q := 0) dX0_pairs_0 rfl rfl ?_
  refine v_iconst dX0_pairs_1 ic_0 ?_
  obtain ⟨fs_125, e_126, e_127, hw⟩ := hw
  obtain ⟨h_128, eh_128⟩ : ∃ z9 : AH, z9 = va_up h b0 (some (.inr (0, fs_125.set 18 (.int (nI 0))))) := ⟨_, rfl⟩
  replace hw := hw h_128 eh_128
  refine v_put in_X0 (ci := 0) rfl 18 (Nat.le_of_ble_eq_true rfl) tyX0 tyX0_ok nmX0 q337 rfl rfl rfl rfl rfl dX0_pairs_2 e_126 e_127 ?_
  rw [← eh_128]
  refine v_aload_n (q := 0) dX0_pairs_5 rfl rfl ?_
  refine v_iconst dX0_pairs_6 ic_0 ?_
  obtain ⟨fs_129, e_130, e_131, hw⟩ := hw
  obtain ⟨h_132, eh_132⟩ : ∃ z9 : AH, z9 = va_up h_128 b0 (some (.inr (0, fs_129.set 19 (.int (nI 0))))) := ⟨_, rfl⟩
  replace hw := hw h_132 eh_132
  refine v_put in_X0 (ci := 0) rfl 19 (Nat.le_of_ble_eq_true rfl) tyX0 tyX0_ok nmX0 q338 rfl rfl rfl rfl rfl dX0_pairs_7 e_130 e_131 ?_
  rw [← eh_132]
  refine v_iconst dX0_pairs_10 ic_0 ?_
  refine v_istore (lv1 := [(4, .int (nI 0)), (0, va_rf (some b0)), (1, va_rf x1), (2, .int x2), (3, .int x3)]) dX0_pairs_11 (Nat.le_of_ble_eq_true rfl) rfl ?_
  obtain ⟨n_133, hw⟩ := hw
  refine v_sub [1, 2, 3, 4, 0] rfl ?_
  exact b_X0_pairs_13 n_133 (nI 0) h_132 hw
theorem met_X0_pairs {post : (AH) → Prop}   {b0 : Nat} {x1 : Option Nat} {x2 : Int32} {x3 : Int32} {h : AH}  (hw : w_X0_pairs post  b0 x1 x2 x3 h) : Mt l E yX0_pairs (ws_ yX0_pairs cX0_pairs 8 none) r_X0_pairs [va_rf (some b0), va_rf x1, .int x2, .int x3] h (vpv (fun (h' : AH) => post h')) := v_entry (by decide +kernel) (by cases x1 <;> exact (Nat.le_of_ble_eq_true rfl)) (by cases x1 <;> exact rfl) (fun _ => e_X0_pairs hw)
/-! X0_part -/
abbrev r_X0_part : Room := { frames := 0, cells := 0, slots := 0, locals := 0 }
theorem n_X0_part : vdn yX0_part 3 := ⟨by decide +kernel, by decide +kernel, by decide +kernel⟩
def w_X0_part_6 (post : (Int64) → Prop) (x0 : Int64) (x2 : Int64) (x4 : Int32) : Nat → (Int64) → (Int64) → Prop
 | 0, _, _ => False
 | n0 + 1, x5, x7 =>
 (((lg_cmp x7 (lN 0)) = 0 → ((¬ (lg_cmp x5 (lN 0)) = 0 → ((¬ x4 = 0 → (¬ x5 = 0 ∧ (post (x2 / x5)))) ∧ (x4 = 0 → (¬ x5 = 0 ∧ (post (x0 / x5)))))) ∧ ((lg_cmp x5 (lN 0)) = 0 → (post (lN 0))))) ∧ (¬ (lg_cmp x7 (lN 0)) = 0 → (¬ x7 = 0 ∧ (∀ y_16 : Int64, y_16 = (x5 - x5 / x7 * x7) → (w_X0_part_6 post x0 x2 x4 n0 x7 y_16)))))
def w_X0_part (post : (Int64) → Prop) (x0 : Int64) (x2 : Int64) (x4 : Int32) : Prop :=
 (∃ n1 : Nat, (w_X0_part_6 post x0 x2 x4 n1 x0 x2))
theorem b_X0_part_6 {post : (Int64) → Prop}   {x0 : Int64} {x2 : Int64} {x4 : Int32} {h : AH}    : ∀ (n0 : Nat) (x5 : Int64) (x7 : Int64), w_X0_part_6 post x0 x2 x4 n0 x5 x7 → VV l E X cX0_part RX0 "part" 11 r_X0_part (some .long) (vpl (fun (r : Int64) (h' : AH) => h' = h ∧ post r)) h 0 0 6 [(0, .long x0), (2, .long x2), (4, .int x4), (5, .long x5), (7, .long x7)] [] := by
  intro n0
  induction n0 with
  | zero =>
    intro x5 x7 hw
    exact hw.elim
  | succ n0 ih =>
    intro x5 x7 hw
    refine v_lload (q := 4) dX0_part_6 rfl ?_
    refine v_lconst (v := lN 0) dX0_part_8 rfl ?_
    refine v_lcmp dX0_part_9 ?_
    obtain ⟨hw_3, hw_4⟩ := hw
    refine v_if_eq (tgt := 31) dX0_part_10 (by decide) (fun c_1 => ?_) (fun c_2 => ?_)
    · have hw := hw_3 c_1
      refine v_lload (q := 3) dX0_part_31 rfl ?_
      refine v_lconst (v := lN 0) dX0_part_33 rfl ?_
      refine v_lcmp dX0_part_34 ?_
      obtain ⟨hw_7, hw_8⟩ := hw
      refine v_if_ne (tgt := 42) dX0_part_35 (by decide) (fun c_5 => ?_) (fun c_6 => ?_)
      · have hw := hw_7 c_5
        refine v_iload (q := 2) dX0_part_42 rfl ?_
        obtain ⟨hw_11, hw_12⟩ := hw
        refine v_if_ne (tgt := 54) dX0_part_44 (by decide) (fun c_9 => ?_) (fun c_10 => ?_)
        · have hw := hw_11 c_9
          refine v_lload_n (q := 1) dX0_part_54 rfl rfl ?_
          refine v_lload (q := 3) dX0_part_55 rfl ?_
          obtain ⟨hz_13, hw⟩ := hw
          refine v_ldiv dX0_part_57 hz_13 ?_
          exact v_lret dX0_part_58 rfl ⟨_, rfl, rfl, hw⟩
        · have hw := hw_12 c_10
          refine v_lload_n (q := 0) dX0_part_47 rfl rfl ?_
          refine v_lload (q := 3) dX0_part_48 rfl ?_
          obtain ⟨hz_14, hw⟩ := hw
          refine v_ldiv dX0_part_50 hz_14 ?_
          refine v_goto (tgt := 58) dX0_part_51 (by decide) ?_
          exact v_lret dX0_part_58 rfl ⟨_, rfl, rfl, hw⟩
      · have hw := hw_8 c_6
        refine v_lconst (v := lN 0) dX0_part_38 rfl ?_
        refine v_goto (tgt := 58) dX0_part_39 (by decide) ?_
        exact v_lret dX0_part_58 rfl ⟨_, rfl, rfl, hw⟩
    · have hw := hw_4 c_2
      refine v_lload (q := 3) dX0_part_13 rfl ?_
      refine v_lload (q := 4) dX0_part_15 rfl ?_
      obtain ⟨hz_15, hw⟩ := hw
      refine v_lrem dX0_part_17 hz_15 ?_
      refine v_topl (fun y_16 e_16 => ?_)
      replace hw := hw y_16 e_16
      refine v_lstore (lv1 := [(9, .long y_16), (0, .long x0), (2, .long x2), (4, .int x4), (5, .long x5), (7, .long x7)]) dX0_part_18 (Nat.le_of_ble_eq_true rfl) rfl ?_
      refine v_lload (q := 5) dX0_part_20 rfl ?_
      refine v_lstore (lv1 := [(5, .long x7), (9, .long y_16), (0, .long x0), (2, .long x2), (4, .int x4), (7, .long x7)]) dX0_part_22 (Nat.le_of_ble_eq_true rfl) rfl ?_
      refine v_lload (q := 1) dX0_part_24 rfl ?_
      refine v_lstore (lv1 := [(7, .long y_16), (5, .long x7), (9, .long y_16), (0, .long x0), (2, .long x2), (4, .int x4)]) dX0_part_26 (Nat.le_of_ble_eq_true rfl) rfl ?_
      refine v_goto (tgt := 6) dX0_part_28 (by decide) ?_
      refine v_sub [3, 4, 5, 1, 0] rfl ?_
      exact ih x7 y_16 hw
theorem e_X0_part {post : (Int64) → Prop}   {x0 : Int64} {x2 : Int64} {x4 : Int32} {h : AH}  (hw : w_X0_part post  x0 x2 x4) : VV l E X cX0_part RX0 "part" 11 r_X0_part (some .long) (vpl (fun (r : Int64) (h' : AH) => h' = h ∧ post r)) h 0 0 0 [(0, .long x0), (2, .long x2), (4, .int x4)] [] := by
  refine v_lload_n (q := 0) dX0_part_0 rfl rfl ?_
  refine v_lstore (lv1 := [(5, .long x0), (0, .long x0), (2, .long x2), (4, .int x4)]) dX0_part_1 (Nat.le_of_ble_eq_true rfl) rfl ?_
  refine v_lload_n (q := 2) dX0_part_3 rfl rfl ?_
  refine v_lstore (lv1 := [(7, .long x2), (5, .long x0), (0, .long x0), (2, .long x2), (4, .int x4)]) dX0_part_4 (Nat.le_of_ble_eq_true rfl) rfl ?_
  obtain ⟨n_17, hw⟩ := hw
  refine v_sub [2, 3, 4, 1, 0] rfl ?_
  exact b_X0_part_6 n_17 x0 x2 hw
theorem met_X0_part {post : (Int64) → Prop}   {x0 : Int64} {x2 : Int64} {x4 : Int32} {h : AH}  (hw : w_X0_part post  x0 x2 x4) : Mt l E yX0_part (ws_ yX0_part cX0_part 11 (some .long)) r_X0_part [.long x0, .long x2, .int x4] h (vpl (fun (r : Int64) (h' : AH) => h' = h ∧ post r)) := v_entry (by decide +kernel) (Nat.le_of_ble_eq_true rfl) rfl (fun _ => e_X0_part hw)
/-! X0_chance -/
abbrev r_X0_chance : Room := { frames := 4, cells := 0, slots := 0, locals := 91 }
theorem n_X0_chance : vdn yX0_chance 2 := ⟨by decide +kernel, by decide +kernel, by decide +kernel⟩
def w_X0_chance (post : (Int32) → (AH) → Prop) (b0 : Nat) (x1 : Int32) (x2 : Int32) (h : AH) : Prop :=
 (w_X0_isPart (fun (z_1 : Int32) => ((¬ z_1 = 0 → (w_X0_isBound (fun (z_6 : Int32) => ((¬ z_6 = 0 → (∃ (fs_11 : List Value) (r_14 : Option Nat), h b0 = some (.inr (0, fs_11)) ∧ fs_11[1]? = some (va_rf r_14) ∧ (∃ a_15 : Nat, r_14 = some a_15 ∧ (∃ (fs_16 : List Value) (r_19 : Option Nat), h a_15 = some (.inr (1, fs_16)) ∧ fs_16[4]? = some (va_rf r_19) ∧ (∃ fs_30 : List Value, h b0 = some (.inr (0, fs_30)) ∧ (w_X0_pairs (fun (h_20 : AH) => (∃ (fs_21 : List Value) (z_24 : Int32), h_20 b0 = some (.inr (0, fs_21)) ∧ fs_21[19]? = some (.int z_24) ∧ (∃ (fs_25 : List Value) (z_28 : Int32), h_20 b0 = some (.inr (0, fs_25)) ∧ fs_25[18]? = some (.int z_28) ∧ (w_X0_part (fun (y_29 : Int64) => (post ((y_29).toInt32) h_20)) ((z_24).toInt64) ((z_28).toInt64) x2)))) b0 r_19 (nI 0) x1 h)))))) ∧ (z_6 = 0 → (∃ fs_34 : List Value, h b0 = some (.inr (0, fs_34)) ∧ (w_X0_refuse (fun (z_32 : Int32) (h_33 : AH) => (post z_32 h_33)) b0 (-3) h))))) x1)) ∧ (z_1 = 0 → (∃ fs_38 : List Value, h b0 = some (.inr (0, fs_38)) ∧ (w_X0_refuse (fun (z_36 : Int32) (h_37 : AH) => (post z_36 h_37)) b0 (-2) h))))) x2)
theorem e_X0_chance {post : (Int32) → (AH) → Prop}   {b0 : Nat} {x1 : Int32} {x2 : Int32} {h : AH}  (hw : w_X0_chance post  b0 x1 x2 h) : VV l E X cX0_chance RX0 "chance" 3 r_X0_chance (some .int) (vpi (fun (r : Int32) (h' : AH) => post r h')) h 0 0 0 [(0, va_rf (some b0)), (1, .int x1), (2, .int x2)] [] := by
  refine v_iload_n (q := 2) dX0_chance_0 rfl rfl ?_
  refine v_callS q1160 q1161 q104 q1162 n_X0_isPart ⟨Nat.le_of_ble_eq_true rfl, Nat.le_of_ble_eq_true rfl⟩ [.int x2] [] (met_X0_isPart hw) rfl (Nat.zero_le _) ⟨Nat.le_refl _, Nat.le_refl _⟩ dX0_chance_1 rfl (v_ki (fun z_1 h1 hv => ?_))
  clear hw
  obtain ⟨e9, hw⟩ := hv
  refine v_heap e9 ?_
  clear e9
  obtain ⟨hw_4, hw_5⟩ := hw
  refine v_if_ne (tgt := 14) dX0_chance_4 (by decide) (fun c_2 => ?_) (fun c_3 => ?_)
  · have hw := hw_4 c_2
    refine v_iload_n (q := 1) dX0_chance_14 rfl rfl ?_
    refine v_callS q1163 q1164 q104 q1165 n_X0_isBound ⟨Nat.le_of_ble_eq_true rfl, Nat.le_of_ble_eq_true rfl⟩ [.int x1] [] (met_X0_isBound hw) rfl (Nat.zero_le _) ⟨Nat.le_refl _, Nat.le_refl _⟩ dX0_chance_15 rfl (v_ki (fun z_6 h1 hv => ?_))
    clear hw
    obtain ⟨e9, hw⟩ := hv
    refine v_heap e9 ?_
    clear e9
    obtain ⟨hw_9, hw_10⟩ := hw
    refine v_if_ne (tgt := 28) dX0_chance_18 (by decide) (fun c_7 => ?_) (fun c_8 => ?_)
    · have hw := hw_9 c_7
      refine v_aload_n (q := 0) dX0_chance_28 rfl rfl ?_
      refine v_aload_n (q := 0) dX0_chance_29 rfl rfl ?_
      obtain ⟨fs_11, r_14, e_12, e_13, hw⟩ := hw
      refine v_get in_X0 (ci := 0) rfl 1 (Nat.le_of_ble_eq_true rfl) q319 rfl dX0_chance_30 e_12 e_13 ?_
      obtain ⟨a_15, ea_15, hw⟩ := hw
      subst ea_15
      obtain ⟨fs_16, r_19, e_17, e_18, hw⟩ := hw
      refine v_getN in_X1 (ci := 1) rfl 4 (Nat.le_of_ble_eq_true rfl) q228 rfl dX0_chance_33 e_17 e_18 ?_
      refine v_iconst dX0_chance_36 ic_0 ?_
      refine v_iload_n (q := 1) dX0_chance_37 rfl rfl ?_
      obtain ⟨fs_30, e_31, hw⟩ := hw
      refine v_callV q1166 q1168 qs41 q104 q1169 (ci := 0) rfl e_31 n_X0_pairs ⟨Nat.le_of_ble_eq_true rfl, Nat.le_of_ble_eq_true rfl⟩ [va_rf r_19, .int (nI 0), .int x1] [] (met_X0_pairs hw) rfl (Nat.zero_le _) ⟨Nat.le_refl _, Nat.le_refl _⟩ dX0_chance_38 rfl (v_kv (fun h_20 hv => ?_))
      clear hw
      have hw := hv
      clear hv
      refine v_aload_n (q := 0) dX0_chance_41 rfl rfl ?_
      obtain ⟨fs_21, z_24, e_22, e_23, hw⟩ := hw
      refine v_get in_X0 (ci := 0) rfl 19 (Nat.le_of_ble_eq_true rfl) q338 rfl dX0_chance_42 e_22 e_23 ?_
      refine v_i2l dX0_chance_45 ?_
      refine v_aload_n (q := 0) dX0_chance_46 rfl rfl ?_
      obtain ⟨fs_25, z_28, e_26, e_27, hw⟩ := hw
      refine v_get in_X0 (ci := 0) rfl 18 (Nat.le_of_ble_eq_true rfl) q337 rfl dX0_chance_47 e_26 e_27 ?_
      refine v_i2l dX0_chance_50 ?_
      refine v_iload_n (q := 2) dX0_chance_51 rfl rfl ?_
      refine v_callS q1170 q1171 q104 q1172 n_X0_part ⟨Nat.le_of_ble_eq_true rfl, Nat.le_of_ble_eq_true rfl⟩ [.long ((z_24).toInt64), .long ((z_28).toInt64), .int x2] [] (met_X0_part hw) rfl (Nat.zero_le _) ⟨Nat.le_refl _, Nat.le_refl _⟩ dX0_chance_52 rfl (v_kl (fun y_29 h1 hv => ?_))
      clear hw
      obtain ⟨e9, hw⟩ := hv
      refine v_heap e9 ?_
      clear e9
      refine v_l2i dX0_chance_55 ?_
      exact v_iret dX0_chance_56 rfl ⟨_, rfl, hw⟩
    · have hw := hw_10 c_8
      refine v_aload_n (q := 0) dX0_chance_21 rfl rfl ?_
      refine v_bipush dX0_chance_22 bp_m3 ?_
      obtain ⟨fs_34, e_35, hw⟩ := hw
      refine v_callV q396 q398 qs0 q104 q399 (ci := 0) rfl e_35 n_X0_refuse ⟨Nat.le_of_ble_eq_true rfl, Nat.le_of_ble_eq_true rfl⟩ [.int (-3)] [] (met_X0_refuse hw) rfl (Nat.zero_le _) ⟨Nat.le_refl _, Nat.le_refl _⟩ dX0_chance_24 rfl (v_ki (fun z_32 h_33 hv => ?_))
      clear hw
      have hw := hv
      clear hv
      exact v_iret dX0_chance_27 rfl ⟨_, rfl, hw⟩
  · have hw := hw_5 c_3
    refine v_aload_n (q := 0) dX0_chance_7 rfl rfl ?_
    refine v_bipush dX0_chance_8 bp_m2 ?_
    obtain ⟨fs_38, e_39, hw⟩ := hw
    refine v_callV q396 q398 qs0 q104 q399 (ci := 0) rfl e_39 n_X0_refuse ⟨Nat.le_of_ble_eq_true rfl, Nat.le_of_ble_eq_true rfl⟩ [.int (-2)] [] (met_X0_refuse hw) rfl (Nat.zero_le _) ⟨Nat.le_refl _, Nat.le_refl _⟩ dX0_chance_10 rfl (v_ki (fun z_36 h_37 hv => ?_))
    clear hw
    have hw := hv
    clear hv
    exact v_iret dX0_chance_13 rfl ⟨_, rfl, hw⟩
theorem met_X0_chance {post : (Int32) → (AH) → Prop}   {b0 : Nat} {x1 : Int32} {x2 : Int32} {h : AH}  (hw : w_X0_chance post  b0 x1 x2 h) : Mt l E yX0_chance (ws_ yX0_chance cX0_chance 3 (some .int)) r_X0_chance [va_rf (some b0), .int x1, .int x2] h (vpi (fun (r : Int32) (h' : AH) => post r h')) := v_entry (by decide +kernel) (Nat.le_of_ble_eq_true rfl) rfl (fun _ => e_X0_chance hw)
/-! X0_odds -/
abbrev r_X0_odds : Room := { frames := 4, cells := 0, slots := 0, locals := 91 }
theorem n_X0_odds : vdn yX0_odds 2 := ⟨by decide +kernel, by decide +kernel, by decide +kernel⟩
def w_X0_odds (post : (Int64) → (AH) → Prop) (b0 : Nat) (x1 : Int32) (x2 : Int32) (h : AH) : Prop :=
 (w_X0_isPart (fun (z_1 : Int32) => ((¬ z_1 = 0 → (w_X0_isBound (fun (z_6 : Int32) => ((¬ z_6 = 0 → (∃ (fs_11 : List Value) (r_14 : Option Nat), h b0 = some (.inr (0, fs_11)) ∧ fs_11[1]? = some (va_rf r_14) ∧ (∃ a_15 : Nat, r_14 = some a_15 ∧ (∃ (fs_16 : List Value) (r_19 : Option Nat), h a_15 = some (.inr (1, fs_16)) ∧ fs_16[3]? = some (va_rf r_19) ∧ (∃ fs_52 : List Value, h b0 = some (.inr (0, fs_52)) ∧ (w_X0_pairs (fun (h_20 : AH) => (∃ (fs_21 : List Value) (z_24 : Int32), h_20 b0 = some (.inr (0, fs_21)) ∧ fs_21[19]? = some (.int z_24) ∧ (∀ y_25 : Int64, y_25 = ((z_24).toInt64) → (∃ (fs_26 : List Value) (z_29 : Int32), h_20 b0 = some (.inr (0, fs_26)) ∧ fs_26[18]? = some (.int z_29) ∧ (∀ y_30 : Int64, y_30 = ((z_29).toInt64) → (∃ (fs_31 : List Value) (r_34 : Option Nat), h_20 b0 = some (.inr (0, fs_31)) ∧ fs_31[1]? = some (va_rf r_34) ∧ (∃ a_35 : Nat, r_34 = some a_35 ∧ (∃ (fs_36 : List Value) (r_39 : Option Nat), h_20 a_35 = some (.inr (1, fs_36)) ∧ fs_36[4]? = some (va_rf r_39) ∧ (∃ fs_50 : List Value, h_20 b0 = some (.inr (0, fs_50)) ∧ (w_X0_pairs (fun (h_40 : AH) => (∃ (fs_41 : List Value) (z_44 : Int32), h_40 b0 = some (.inr (0, fs_41)) ∧ fs_41[18]? = some (.int z_44) ∧ (∃ (fs_45 : List Value) (z_48 : Int32), h_40 b0 = some (.inr (0, fs_45)) ∧ fs_45[19]? = some (.int z_48) ∧ (w_X0_part (fun (y_49 : Int64) => (post y_49 h_40)) (y_25 * ((z_44).toInt64)) (y_30 * ((z_48).toInt64)) x2)))) b0 r_39 (nI 0) x1 h_20)))))))))) b0 r_19 (nI 1) x1 h)))))) ∧ (z_6 = 0 → (∃ fs_56 : List Value, h b0 = some (.inr (0, fs_56)) ∧ (w_X0_refuse (fun (z_54 : Int32) (h_55 : AH) => (post ((z_54).toInt64) h_55)) b0 (-3) h))))) x1)) ∧ (z_1 = 0 → (∃ fs_60 : List Value, h b0 = some (.inr (0, fs_60)) ∧ (w_X0_refuse (fun (z_58 : Int32) (h_59 : AH) => (post ((z_58).toInt64) h_59)) b0 (-2) h))))) x2)
theorem e_X0_odds {post : (Int64) → (AH) → Prop}   {b0 : Nat} {x1 : Int32} {x2 : Int32} {h : AH}  (hw : w_X0_odds post  b0 x1 x2 h) : VV l E X cX0_odds RX0 "odds" 7 r_X0_odds (some .long) (vpl (fun (r : Int64) (h' : AH) => post r h')) h 0 0 0 [(0, va_rf (some b0)), (1, .int x1), (2, .int x2)] [] := by
  refine v_iload_n (q := 2) dX0_odds_0 rfl rfl ?_
  refine v_callS q1160 q1161 q104 q1162 n_X0_isPart ⟨Nat.le_of_ble_eq_true rfl, Nat.le_of_ble_eq_true rfl⟩ [.int x2] [] (met_X0_isPart hw) rfl (Nat.zero_le _) ⟨Nat.le_refl _, Nat.le_refl _⟩ dX0_odds_1 rfl (v_ki (fun z_1 h1 hv => ?_))
  clear hw
  obtain ⟨e9, hw⟩ := hv
  refine v_heap e9 ?_
  clear e9
  obtain ⟨hw_4, hw_5⟩ := hw
  refine v_if_ne (tgt := 15) dX0_odds_4 (by decide) (fun c_2 => ?_) (fun c_3 => ?_)
  · have hw := hw_4 c_2
    refine v_iload_n (q := 1) dX0_odds_15 rfl rfl ?_
    refine v_callS q1163 q1164 q104 q1165 n_X0_isBound ⟨Nat.le_of_ble_eq_true rfl, Nat.le_of_ble_eq_true rfl⟩ [.int x1] [] (met_X0_isBound hw) rfl (Nat.zero_le _) ⟨Nat.le_refl _, Nat.le_refl _⟩ dX0_odds_16 rfl (v_ki (fun z_6 h1 hv => ?_))
    clear hw
    obtain ⟨e9, hw⟩ := hv
    refine v_heap e9 ?_
    clear e9
    obtain ⟨hw_9, hw_10⟩ := hw
    refine v_if_ne (tgt := 30) dX0_odds_19 (by decide) (fun c_7 => ?_) (fun c_8 => ?_)
    · have hw := hw_9 c_7
      refine v_aload_n (q := 0) dX0_odds_30 rfl rfl ?_
      refine v_aload_n (q := 0) dX0_odds_31 rfl rfl ?_
      obtain ⟨fs_11, r_14, e_12, e_13, hw⟩ := hw
      refine v_get in_X0 (ci := 0) rfl 1 (Nat.le_of_ble_eq_true rfl) q319 rfl dX0_odds_32 e_12 e_13 ?_
      obtain ⟨a_15, ea_15, hw⟩ := hw
      subst ea_15
      obtain ⟨fs_16, r_19, e_17, e_18, hw⟩ := hw
      refine v_getN in_X1 (ci := 1) rfl 3 (Nat.le_of_ble_eq_true rfl) q226 rfl dX0_odds_35 e_17 e_18 ?_
      refine v_iconst dX0_odds_38 ic_1 ?_
      refine v_iload_n (q := 1) dX0_odds_39 rfl rfl ?_
      obtain ⟨fs_52, e_53, hw⟩ := hw
      refine v_callV q1166 q1168 qs41 q104 q1169 (ci := 0) rfl e_53 n_X0_pairs ⟨Nat.le_of_ble_eq_true rfl, Nat.le_of_ble_eq_true rfl⟩ [va_rf r_19, .int (nI 1), .int x1] [] (met_X0_pairs hw) rfl (Nat.zero_le _) ⟨Nat.le_refl _, Nat.le_refl _⟩ dX0_odds_40 rfl (v_kv (fun h_20 hv => ?_))
      clear hw
      have hw := hv
      clear hv
      refine v_aload_n (q := 0) dX0_odds_43 rfl rfl ?_
      obtain ⟨fs_21, z_24, e_22, e_23, hw⟩ := hw
      refine v_get in_X0 (ci := 0) rfl 19 (Nat.le_of_ble_eq_true rfl) q338 rfl dX0_odds_44 e_22 e_23 ?_
      refine v_i2l dX0_odds_47 ?_
      refine v_topl (fun y_25 e_25 => ?_)
      replace hw := hw y_25 e_25
      refine v_lstore_n (lv1 := [(3, .long y_25), (0, va_rf (some b0)), (1, .int x1), (2, .int x2)]) dX0_odds_48 rfl (Nat.le_of_ble_eq_true rfl) rfl ?_
      refine v_aload_n (q := 1) dX0_odds_49 rfl rfl ?_
      obtain ⟨fs_26, z_29, e_27, e_28, hw⟩ := hw
      refine v_get in_X0 (ci := 0) rfl 18 (Nat.le_of_ble_eq_true rfl) q337 rfl dX0_odds_50 e_27 e_28 ?_
      refine v_i2l dX0_odds_53 ?_
      refine v_topl (fun y_30 e_30 => ?_)
      replace hw := hw y_30 e_30
      refine v_lstore (lv1 := [(5, .long y_30), (3, .long y_25), (0, va_rf (some b0)), (1, .int x1), (2, .int x2)]) dX0_odds_54 (Nat.le_of_ble_eq_true rfl) rfl ?_
      refine v_aload_n (q := 2) dX0_odds_56 rfl rfl ?_
      refine v_aload_n (q := 2) dX0_odds_57 rfl rfl ?_
      obtain ⟨fs_31, r_34, e_32, e_33, hw⟩ := hw
      refine v_get in_X0 (ci := 0) rfl 1 (Nat.le_of_ble_eq_true rfl) q319 rfl dX0_odds_58 e_32 e_33 ?_
      obtain ⟨a_35, ea_35, hw⟩ := hw
      subst ea_35
      obtain ⟨fs_36, r_39, e_37, e_38, hw⟩ := hw
      refine v_getN in_X1 (ci := 1) rfl 4 (Nat.le_of_ble_eq_true rfl) q228 rfl dX0_odds_61 e_37 e_38 ?_
      refine v_iconst dX0_odds_64 ic_0 ?_
      refine v_iload_n (q := 3) dX0_odds_65 rfl rfl ?_
      obtain ⟨fs_50, e_51, hw⟩ := hw
      refine v_callV q1166 q1168 qs41 q104 q1169 (ci := 0) rfl e_51 n_X0_pairs ⟨Nat.le_of_ble_eq_true rfl, Nat.le_of_ble_eq_true rfl⟩ [va_rf r_39, .int (nI 0), .int x1] [] (met_X0_pairs hw) rfl (Nat.zero_le _) ⟨Nat.le_refl _, Nat.le_refl _⟩ dX0_odds_66 rfl (v_kv (fun h_40 hv => ?_))
      clear hw
      have hw := hv
      clear hv
      refine v_lload_n (q := 1) dX0_odds_69 rfl rfl ?_
      refine v_aload_n (q := 2) dX0_odds_70 rfl rfl ?_
      obtain ⟨fs_41, z_44, e_42, e_43, hw⟩ := hw
      refine v_get in_X0 (ci := 0) rfl 18 (Nat.le_of_ble_eq_true rfl) q337 rfl dX0_odds_71 e_42 e_43 ?_
      refine v_i2l dX0_odds_74 ?_
      refine v_lmul dX0_odds_75 ?_
      refine v_lload (q := 0) dX0_odds_76 rfl ?_
      refine v_aload_n (q := 2) dX0_odds_78 rfl rfl ?_
      obtain ⟨fs_45, z_48, e_46, e_47, hw⟩ := hw
      refine v_get in_X0 (ci := 0) rfl 19 (Nat.le_of_ble_eq_true rfl) q338 rfl dX0_odds_79 e_46 e_47 ?_
      refine v_i2l dX0_odds_82 ?_
      refine v_lmul dX0_odds_83 ?_
      refine v_iload_n (q := 4) dX0_odds_84 rfl rfl ?_
      refine v_callS q1170 q1171 q104 q1172 n_X0_part ⟨Nat.le_of_ble_eq_true rfl, Nat.le_of_ble_eq_true rfl⟩ [.long (y_25 * ((z_44).toInt64)), .long (y_30 * ((z_48).toInt64)), .int x2] [] (met_X0_part hw) rfl (Nat.zero_le _) ⟨Nat.le_refl _, Nat.le_refl _⟩ dX0_odds_85 rfl (v_kl (fun y_49 h1 hv => ?_))
      clear hw
      obtain ⟨e9, hw⟩ := hv
      refine v_heap e9 ?_
      clear e9
      exact v_lret dX0_odds_88 rfl ⟨_, rfl, hw⟩
    · have hw := hw_10 c_8
      refine v_aload_n (q := 0) dX0_odds_22 rfl rfl ?_
      refine v_bipush dX0_odds_23 bp_m3 ?_
      obtain ⟨fs_56, e_57, hw⟩ := hw
      refine v_callV q396 q398 qs0 q104 q399 (ci := 0) rfl e_57 n_X0_refuse ⟨Nat.le_of_ble_eq_true rfl, Nat.le_of_ble_eq_true rfl⟩ [.int (-3)] [] (met_X0_refuse hw) rfl (Nat.zero_le _) ⟨Nat.le_refl _, Nat.le_refl _⟩ dX0_odds_25 rfl (v_ki (fun z_54 h_55 hv => ?_))
      clear hw
      have hw := hv
      clear hv
      refine v_i2l dX0_odds_28 ?_
      exact v_lret dX0_odds_29 rfl ⟨_, rfl, hw⟩
  · have hw := hw_5 c_3
    refine v_aload_n (q := 0) dX0_odds_7 rfl rfl ?_
    refine v_bipush dX0_odds_8 bp_m2 ?_
    obtain ⟨fs_60, e_61, hw⟩ := hw
    refine v_callV q396 q398 qs0 q104 q399 (ci := 0) rfl e_61 n_X0_refuse ⟨Nat.le_of_ble_eq_true rfl, Nat.le_of_ble_eq_true rfl⟩ [.int (-2)] [] (met_X0_refuse hw) rfl (Nat.zero_le _) ⟨Nat.le_refl _, Nat.le_refl _⟩ dX0_odds_10 rfl (v_ki (fun z_58 h_59 hv => ?_))
    clear hw
    have hw := hv
    clear hv
    refine v_i2l dX0_odds_13 ?_
    exact v_lret dX0_odds_14 rfl ⟨_, rfl, hw⟩
theorem met_X0_odds {post : (Int64) → (AH) → Prop}   {b0 : Nat} {x1 : Int32} {x2 : Int32} {h : AH}  (hw : w_X0_odds post  b0 x1 x2 h) : Mt l E yX0_odds (ws_ yX0_odds cX0_odds 7 (some .long)) r_X0_odds [va_rf (some b0), .int x1, .int x2] h (vpl (fun (r : Int64) (h' : AH) => post r h')) := v_entry (by decide +kernel) (Nat.le_of_ble_eq_true rfl) rfl (fun _ => e_X0_odds hw)
end WALK
