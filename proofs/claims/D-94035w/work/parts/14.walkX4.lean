set_option maxRecDepth 100000
section WALK
variable {l : Launch} {E : VE} {X : VX} {b : Nat → Nat}
/-! X0_matchesOf -/
abbrev r_X0_matchesOf : Room := { frames := 3, cells := 0, slots := 0, locals := 64 }
theorem n_X0_matchesOf : vdn yX0_matchesOf 2 := ⟨by decide +kernel, by decide +kernel, by decide +kernel⟩
def w_X0_matchesOf_101 (post : (Int32) → (AH) → Prop) (k24 : (Int32) → (Option Nat) → (Int32) → (AH) → Prop) (k45 : (Int32) → (Option Nat) → (Int32) → (Int32) → (Int32) → (AH) → Prop) (b0 : Nat) (x1 : Int32) (x2 : Int32) (x3 : Int32) (x4 : Option Nat) (x5 : Int32) (x7 : Int32) (s0 : Int32) (h : AH) : Prop :=
 (∀ z_1 : Int32, z_1 = x7 + (nI 1) → (k45 x3 x4 x5 s0 z_1 h))
def w_X0_matchesOf_120 (post : (Int32) → (AH) → Prop) (k24 : (Int32) → (Option Nat) → (Int32) → (AH) → Prop) (b0 : Nat) (x1 : Int32) (x2 : Int32) (x4 : Option Nat) (x5 : Int32) (s0 : Int32) (s1 : Int32) (h : AH) : Prop :=
 (∀ z_2 : Int32, z_2 = (s1 + s0) → (∀ z_3 : Int32, z_3 = x5 + (nI 1) → (k24 z_2 x4 z_3 h)))
def w_X0_matchesOf_109 (post : (Int32) → (AH) → Prop) (k24 : (Int32) → (Option Nat) → (Int32) → (AH) → Prop) (b0 : Nat) (x1 : Int32) (x2 : Int32) (x3 : Int32) (x4 : Option Nat) (x5 : Int32) (x6 : Int32) (h : AH) : Prop :=
 ((x6 = 0 → (w_X0_matchesOf_120 post k24 b0 x1 x2 x4 x5 (nI 0) x3 h)) ∧ (¬ x6 = 0 → (w_X0_matchesOf_120 post k24 b0 x1 x2 x4 x5 (nI 1) x3 h)))
def w_X0_matchesOf_45 (post : (Int32) → (AH) → Prop) (k24 : (Int32) → (Option Nat) → (Int32) → (AH) → Prop) (b0 : Nat) (x1 : Int32) (x2 : Int32) : Nat → (Int32) → (Option Nat) → (Int32) → (Int32) → (Int32) → (AH) → Prop
 | 0, _, _, _, _, _, _ => False
 | n0 + 1, x3, x4, x5, x6, x7, h =>
 (∃ a_8 : Nat, x4 = some a_8 ∧ (∃ fs_52 : List Value, h a_8 = some (.inr (2, fs_52)) ∧ (w_J2_size (fun (z_9 : Int32) => ((z_9 ≤ x7 → (w_X0_matchesOf_109 post k24 b0 x1 x2 x3 (some a_8) x5 x6 h)) ∧ (¬ z_9 ≤ x7 → ((¬ x6 = 0 → (w_X0_matchesOf_109 post k24 b0 x1 x2 x3 (some a_8) x5 x6 h)) ∧ (x6 = 0 → (∃ (fs_18 : List Value) (r_21 : Option Nat), h b0 = some (.inr (0, fs_18)) ∧ fs_18[1]? = some (va_rf r_21) ∧ (∃ a_22 : Nat, r_21 = some a_22 ∧ (∃ (fs_23 : List Value) (r_26 : Option Nat), h a_22 = some (.inr (1, fs_23)) ∧ fs_23[5]? = some (va_rf r_26) ∧ (∃ a_27 : Nat, r_26 = some a_27 ∧ (∃ fs_50 : List Value, h a_27 = some (.inr (2, fs_50)) ∧ (w_J2_get (fun (r_28 : Option Nat) => (∃ a_29 : Nat, r_28 = some a_29 ∧ (∃ fs_30 : List Value, h a_29 = some (.inr (10, fs_30)) ∧ (∃ (fs_32 : List Value) (r_35 : Option Nat), h a_29 = some (.inr (10, fs_32)) ∧ fs_32[0]? = some (va_rf r_35) ∧ (∃ fs_48 : List Value, h a_8 = some (.inr (2, fs_48)) ∧ (w_J2_get (fun (r_36 : Option Nat) => (∃ a_37 : Nat, r_36 = some a_37 ∧ (∃ fs_38 : List Value, h a_37 = some (.inr (9, fs_38)) ∧ (∃ fs_46 : List Value, h b0 = some (.inr (0, fs_46)) ∧ (w_X0_likeness (fun (z_40 : Int32) (h_41 : AH) => ((z_40 < x2 → (w_X0_matchesOf_101 post k24 (fun (q0 : Int32) (q1 : Option Nat) (q2 : Int32) (q3 : Int32) (q4 : Int32) (q5 : AH) => w_X0_matchesOf_45 post k24 b0 x1 x2 n0 q0 q1 q2 q3 q4 q5) b0 x1 x2 x3 (some a_8) x5 x7 (nI 0) h_41)) ∧ (¬ z_40 < x2 → (w_X0_matchesOf_101 post k24 (fun (q0 : Int32) (q1 : Option Nat) (q2 : Int32) (q3 : Int32) (q4 : Int32) (q5 : AH) => w_X0_matchesOf_45 post k24 b0 x1 x2 n0 q0 q1 q2 q3 q4 q5) b0 x1 x2 x3 (some a_8) x5 x7 (nI 1) h_41)))) b0 r_35 (some a_37) h))))) a_8 x7 h)))))) a_27 x5 h))))))))))) a_8 h)))
def w_X0_matchesOf_24 (post : (Int32) → (AH) → Prop) (b0 : Nat) (x1 : Int32) (x2 : Int32) : Nat → (Int32) → (Option Nat) → (Int32) → (AH) → Prop
 | 0, _, _, _, _ => False
 | n0 + 1, x3, x4, x5, h =>
 (∃ (fs_54 : List Value) (r_57 : Option Nat), h b0 = some (.inr (0, fs_54)) ∧ fs_54[1]? = some (va_rf r_57) ∧ (∃ a_58 : Nat, r_57 = some a_58 ∧ (∃ (fs_59 : List Value) (r_62 : Option Nat), h a_58 = some (.inr (1, fs_59)) ∧ fs_59[5]? = some (va_rf r_62) ∧ (∃ a_63 : Nat, r_62 = some a_63 ∧ (∃ fs_70 : List Value, h a_63 = some (.inr (2, fs_70)) ∧ (w_J2_size (fun (z_64 : Int32) => ((z_64 ≤ x5 → (post x3 h)) ∧ (¬ z_64 ≤ x5 → (∃ n1 : Nat, (w_X0_matchesOf_45 post (fun (q0 : Int32) (q1 : Option Nat) (q2 : Int32) (q3 : AH) => w_X0_matchesOf_24 post b0 x1 x2 n0 q0 q1 q2 q3) b0 x1 x2 n1 x3 x4 x5 (nI 0) (nI 0) h))))) a_63 h))))))
def w_X0_matchesOf (post : (Int32) → (AH) → Prop) (b0 : Nat) (x1 : Int32) (x2 : Int32) (h : AH) : Prop :=
 (∃ (fs_72 : List Value) (r_75 : Option Nat), h b0 = some (.inr (0, fs_72)) ∧ fs_72[1]? = some (va_rf r_75) ∧ (∃ a_76 : Nat, r_75 = some a_76 ∧ (∃ (fs_77 : List Value) (r_80 : Option Nat), h a_76 = some (.inr (1, fs_77)) ∧ fs_77[4]? = some (va_rf r_80) ∧ (∃ a_81 : Nat, r_80 = some a_81 ∧ (∃ fs_91 : List Value, h a_81 = some (.inr (2, fs_91)) ∧ (w_J2_get (fun (r_82 : Option Nat) => (∃ a_83 : Nat, r_82 = some a_83 ∧ (∃ fs_84 : List Value, h a_83 = some (.inr (8, fs_84)) ∧ (∃ (fs_86 : List Value) (r_89 : Option Nat), h a_83 = some (.inr (8, fs_86)) ∧ fs_86[4]? = some (va_rf r_89) ∧ (∃ n1 : Nat, (w_X0_matchesOf_24 post b0 x1 x2 n1 (nI 0) r_89 (nI 0) h)))))) a_81 x1 h))))))
theorem b_X0_matchesOf_101 {post : (Int32) → (AH) → Prop}   {b0 : Nat} {x1 : Int32} {x2 : Int32} {k24 : (Int32) → (Option Nat) → (Int32) → (AH) → Prop} {k45 : (Int32) → (Option Nat) → (Int32) → (Int32) → (Int32) → (AH) → Prop}  (hk24 : ∀ (x3 : Int32) (x4 : Option Nat) (x5 : Int32) (h : AH), k24 x3 x4 x5 h → VV l E X cX0_matchesOf RX0 "matchesOf" 8 r_X0_matchesOf (some .int) (vpi (fun (r : Int32) (h' : AH) => post r h')) h 0 0 24 [(0, va_rf (some b0)), (1, .int x1), (2, .int x2), (3, .int x3), (4, va_rf x4), (5, .int x5)] []) (hk45 : ∀ (x3 : Int32) (x4 : Option Nat) (x5 : Int32) (x6 : Int32) (x7 : Int32) (h : AH), k45 x3 x4 x5 x6 x7 h → VV l E X cX0_matchesOf RX0 "matchesOf" 8 r_X0_matchesOf (some .int) (vpi (fun (r : Int32) (h' : AH) => post r h')) h 0 0 45 [(0, va_rf (some b0)), (1, .int x1), (2, .int x2), (3, .int x3), (4, va_rf x4), (5, .int x5), (6, .int x6), (7, .int x7)] []) (x3 : Int32) (x4 : Option Nat) (x5 : Int32) (x7 : Int32) (s0 : Int32) (h : AH) (hw : w_X0_matchesOf_101 post k24 k45 b0 x1 x2 x3 x4 x5 x7 s0 h) : VV l E X cX0_matchesOf RX0 "matchesOf" 8 r_X0_matchesOf (some .int) (vpi (fun (r : Int32) (h' : AH) => post r h')) h 0 0 101 [(0, va_rf (some b0)), (1, .int x1), (2, .int x2), (3, .int x3), (4, va_rf x4), (5, .int x5), (7, .int x7)] [.int s0] := by
  refine v_istore (lv1 := [(6, .int s0), (0, va_rf (some b0)), (1, .int x1), (2, .int x2), (3, .int x3), (4, va_rf x4), (5, .int x5), (7, .int x7)]) dX0_matchesOf_101 (Nat.le_of_ble_eq_true rfl) rfl ?_
  obtain ⟨z_1, e_1⟩ : ∃ z9 : Int32, z9 = x7 + (nI 1) := ⟨_, rfl⟩
  replace hw := hw z_1 e_1
  refine v_iinc (q := 7) (v := z_1) (lv1 := [(7, .int z_1), (6, .int s0), (0, va_rf (some b0)), (1, .int x1), (2, .int x2), (3, .int x3), (4, va_rf x4), (5, .int x5)]) dX0_matchesOf_103 rfl (by rw [e_1, ic_1]) (Nat.le_of_ble_eq_true rfl) rfl ?_
  refine v_goto (tgt := 45) dX0_matchesOf_106 (by decide) ?_
  refine v_sub [2, 3, 4, 5, 6, 7, 1, 0] rfl ?_
  exact hk45 x3 x4 x5 s0 z_1 h hw
theorem b_X0_matchesOf_120 {post : (Int32) → (AH) → Prop}   {b0 : Nat} {x1 : Int32} {x2 : Int32} {k24 : (Int32) → (Option Nat) → (Int32) → (AH) → Prop}  (hk24 : ∀ (x3 : Int32) (x4 : Option Nat) (x5 : Int32) (h : AH), k24 x3 x4 x5 h → VV l E X cX0_matchesOf RX0 "matchesOf" 8 r_X0_matchesOf (some .int) (vpi (fun (r : Int32) (h' : AH) => post r h')) h 0 0 24 [(0, va_rf (some b0)), (1, .int x1), (2, .int x2), (3, .int x3), (4, va_rf x4), (5, .int x5)] []) (x4 : Option Nat) (x5 : Int32) (s0 : Int32) (s1 : Int32) (h : AH) (hw : w_X0_matchesOf_120 post k24 b0 x1 x2 x4 x5 s0 s1 h) : VV l E X cX0_matchesOf RX0 "matchesOf" 8 r_X0_matchesOf (some .int) (vpi (fun (r : Int32) (h' : AH) => post r h')) h 0 0 120 [(0, va_rf (some b0)), (1, .int x1), (2, .int x2), (4, va_rf x4), (5, .int x5)] [.int s0, .int s1] := by
  refine v_iadd dX0_matchesOf_120 ?_
  refine v_topi (fun z_2 e_2 => ?_)
  replace hw := hw z_2 e_2
  refine v_istore_n (lv1 := [(3, .int z_2), (0, va_rf (some b0)), (1, .int x1), (2, .int x2), (4, va_rf x4), (5, .int x5)]) dX0_matchesOf_121 rfl (Nat.le_of_ble_eq_true rfl) rfl ?_
  obtain ⟨z_3, e_3⟩ : ∃ z9 : Int32, z9 = x5 + (nI 1) := ⟨_, rfl⟩
  replace hw := hw z_3 e_3
  refine v_iinc (q := 5) (v := z_3) (lv1 := [(5, .int z_3), (3, .int z_2), (0, va_rf (some b0)), (1, .int x1), (2, .int x2), (4, va_rf x4)]) dX0_matchesOf_122 rfl (by rw [e_3, ic_1]) (Nat.le_of_ble_eq_true rfl) (by cases x4 <;> rfl) ?_
  refine v_goto (tgt := 24) dX0_matchesOf_125 (by decide) ?_
  refine v_sub [2, 3, 4, 1, 5, 0] rfl ?_
  exact hk24 z_2 x4 z_3 h hw
theorem b_X0_matchesOf_109 {post : (Int32) → (AH) → Prop}   {b0 : Nat} {x1 : Int32} {x2 : Int32} {k24 : (Int32) → (Option Nat) → (Int32) → (AH) → Prop}  (hk24 : ∀ (x3 : Int32) (x4 : Option Nat) (x5 : Int32) (h : AH), k24 x3 x4 x5 h → VV l E X cX0_matchesOf RX0 "matchesOf" 8 r_X0_matchesOf (some .int) (vpi (fun (r : Int32) (h' : AH) => post r h')) h 0 0 24 [(0, va_rf (some b0)), (1, .int x1), (2, .int x2), (3, .int x3), (4, va_rf x4), (5, .int x5)] []) (x3 : Int32) (x4 : Option Nat) (x5 : Int32) (x6 : Int32) (h : AH) (hw : w_X0_matchesOf_109 post k24 b0 x1 x2 x3 x4 x5 x6 h) : VV l E X cX0_matchesOf RX0 "matchesOf" 8 r_X0_matchesOf (some .int) (vpi (fun (r : Int32) (h' : AH) => post r h')) h 0 0 109 [(0, va_rf (some b0)), (1, .int x1), (2, .int x2), (3, .int x3), (4, va_rf x4), (5, .int x5), (6, .int x6)] [] := by
  refine v_iload_n (q := 3) dX0_matchesOf_109 rfl rfl ?_
  refine v_iload (q := 6) dX0_matchesOf_110 rfl ?_
  obtain ⟨hw_6, hw_7⟩ := hw
  refine v_if_eq (tgt := 119) dX0_matchesOf_112 (by decide) (fun c_4 => ?_) (fun c_5 => ?_)
  · have hw := hw_6 c_4
    refine v_iconst dX0_matchesOf_119 ic_0 ?_
    refine v_sub [0, 1, 2, 4, 5] rfl ?_
    exact b_X0_matchesOf_120 hk24 x4 x5 (nI 0) x3 h hw
  · have hw := hw_7 c_5
    refine v_iconst dX0_matchesOf_115 ic_1 ?_
    refine v_goto (tgt := 120) dX0_matchesOf_116 (by decide) ?_
    refine v_sub [0, 1, 2, 4, 5] rfl ?_
    exact b_X0_matchesOf_120 hk24 x4 x5 (nI 1) x3 h hw
theorem b_X0_matchesOf_45 {post : (Int32) → (AH) → Prop}   {b0 : Nat} {x1 : Int32} {x2 : Int32} {k24 : (Int32) → (Option Nat) → (Int32) → (AH) → Prop}  (hk24 : ∀ (x3 : Int32) (x4 : Option Nat) (x5 : Int32) (h : AH), k24 x3 x4 x5 h → VV l E X cX0_matchesOf RX0 "matchesOf" 8 r_X0_matchesOf (some .int) (vpi (fun (r : Int32) (h' : AH) => post r h')) h 0 0 24 [(0, va_rf (some b0)), (1, .int x1), (2, .int x2), (3, .int x3), (4, va_rf x4), (5, .int x5)] []) : ∀ (n0 : Nat) (x3 : Int32) (x4 : Option Nat) (x5 : Int32) (x6 : Int32) (x7 : Int32) (h : AH), w_X0_matchesOf_45 post k24 b0 x1 x2 n0 x3 x4 x5 x6 x7 h → VV l E X cX0_matchesOf RX0 "matchesOf" 8 r_X0_matchesOf (some .int) (vpi (fun (r : Int32) (h' : AH) => post r h')) h 0 0 45 [(0, va_rf (some b0)), (1, .int x1), (2, .int x2), (3, .int x3), (4, va_rf x4), (5, .int x5), (6, .int x6), (7, .int x7)] [] := by
  intro n0
  induction n0 with
  | zero =>
    intro x3 x4 x5 x6 x7 h hw
    exact hw.elim
  | succ n0 ih =>
    intro x3 x4 x5 x6 x7 h hw
    refine v_iload (q := 7) dX0_matchesOf_45 rfl ?_
    refine v_aload (q := 4) dX0_matchesOf_47 rfl ?_
    obtain ⟨a_8, ea_8, hw⟩ := hw
    subst ea_8
    obtain ⟨fs_52, e_53, hw⟩ := hw
    refine v_callV q413 q414 q415 q108 q416 (ci := 2) rfl e_53 n_J2_size ⟨Nat.le_of_ble_eq_true rfl, Nat.le_of_ble_eq_true rfl⟩ [] [.int x7] (met_J2_size hw) rfl (Nat.le_of_ble_eq_true rfl) ⟨Nat.le_refl _, Nat.le_refl _⟩ dX0_matchesOf_49 rfl (v_ki (fun z_9 h1 hv => ?_))
    clear hw
    obtain ⟨e9, hw⟩ := hv
    refine v_heap e9 ?_
    clear e9
    obtain ⟨hw_12, hw_13⟩ := hw
    refine v_icmp_ge (tgt := 109) dX0_matchesOf_52 (by decide) (fun c_10 => ?_) (fun c_11 => ?_)
    · have hw := hw_12 c_10
      refine v_sub [0, 1, 2, 3, 4, 5, 6] rfl ?_
      exact b_X0_matchesOf_109 hk24 x3 (some a_8) x5 x6 h hw
    · have hw := hw_13 c_11
      refine v_iload (q := 6) dX0_matchesOf_55 rfl ?_
      obtain ⟨hw_16, hw_17⟩ := hw
      refine v_if_ne (tgt := 109) dX0_matchesOf_57 (by decide) (fun c_14 => ?_) (fun c_15 => ?_)
      · have hw := hw_16 c_14
        refine v_sub [0, 1, 2, 3, 4, 5, 6] rfl ?_
        exact b_X0_matchesOf_109 hk24 x3 (some a_8) x5 x6 h hw
      · have hw := hw_17 c_15
        refine v_aload_n (q := 0) dX0_matchesOf_60 rfl rfl ?_
        refine v_aload_n (q := 0) dX0_matchesOf_61 rfl rfl ?_
        obtain ⟨fs_18, r_21, e_19, e_20, hw⟩ := hw
        refine v_get in_X0 (ci := 0) rfl 1 (Nat.le_of_ble_eq_true rfl) q319 rfl dX0_matchesOf_62 e_19 e_20 ?_
        obtain ⟨a_22, ea_22, hw⟩ := hw
        subst ea_22
        obtain ⟨fs_23, r_26, e_24, e_25, hw⟩ := hw
        refine v_getN in_X1 (ci := 1) rfl 5 (Nat.le_of_ble_eq_true rfl) q230 rfl dX0_matchesOf_65 e_24 e_25 ?_
        refine v_iload (q := 5) dX0_matchesOf_68 rfl ?_
        obtain ⟨a_27, ea_27, hw⟩ := hw
        subst ea_27
        obtain ⟨fs_50, e_51, hw⟩ := hw
        refine v_callV q577 q578 q579 q108 q580 (ci := 2) rfl e_51 n_J2_get ⟨Nat.le_of_ble_eq_true rfl, Nat.le_of_ble_eq_true rfl⟩ [.int x5] [va_rf (some b0)] (met_J2_get hw) rfl (by simp only [List.map_cons, List.map_nil, List.sum_cons, List.sum_nil, v_rf1, v_cI, v_cJ]; decide) ⟨Nat.le_refl _, Nat.le_refl _⟩ dX0_matchesOf_70 rfl (v_kq (fun r_28 h1 hv => ?_))
        clear hw
        obtain ⟨e9, hw⟩ := hv
        refine v_heap e9 ?_
        clear e9
        obtain ⟨a_29, ea_29, hw⟩ := hw
        subst ea_29
        obtain ⟨fs_30, e_31, hw⟩ := hw
        refine v_cast (ci := 10) rfl q562 dX0_matchesOf_73 e_31 ?_
        obtain ⟨fs_32, r_35, e_33, e_34, hw⟩ := hw
        refine v_getN in_X9 (ci := 10) rfl 0 (Nat.le_of_ble_eq_true rfl) q569 rfl dX0_matchesOf_76 e_33 e_34 ?_
        refine v_aload (q := 4) dX0_matchesOf_79 rfl ?_
        refine v_iload (q := 7) dX0_matchesOf_81 rfl ?_
        obtain ⟨fs_48, e_49, hw⟩ := hw
        refine v_callV q577 q578 q579 q108 q580 (ci := 2) rfl e_49 n_J2_get ⟨Nat.le_of_ble_eq_true rfl, Nat.le_of_ble_eq_true rfl⟩ [.int x7] [va_rf r_35, va_rf (some b0)] (met_J2_get hw) rfl (by simp only [List.map_cons, List.map_nil, List.sum_cons, List.sum_nil, v_rf1, v_cI, v_cJ]; decide) ⟨Nat.le_refl _, Nat.le_refl _⟩ dX0_matchesOf_83 rfl (v_kq (fun r_36 h1 hv => ?_))
        clear hw
        obtain ⟨e9, hw⟩ := hv
        refine v_heap e9 ?_
        clear e9
        obtain ⟨a_37, ea_37, hw⟩ := hw
        subst ea_37
        obtain ⟨fs_38, e_39, hw⟩ := hw
        refine v_cast (ci := 9) rfl q304 dX0_matchesOf_86 e_39 ?_
        obtain ⟨fs_46, e_47, hw⟩ := hw
        refine v_callV q621 q623 qs8 q104 q624 (ci := 0) rfl e_47 n_X0_likeness ⟨Nat.le_of_ble_eq_true rfl, Nat.le_of_ble_eq_true rfl⟩ [va_rf r_35, va_rf (some a_37)] [] (met_X0_likeness hw) rfl (Nat.zero_le _) ⟨Nat.le_refl _, Nat.le_refl _⟩ dX0_matchesOf_89 rfl (v_ki (fun z_40 h_41 hv => ?_))
        clear hw
        have hw := hv
        clear hv
        refine v_iload_n (q := 2) dX0_matchesOf_92 rfl rfl ?_
        obtain ⟨hw_44, hw_45⟩ := hw
        refine v_icmp_lt (tgt := 100) dX0_matchesOf_93 (by decide) (fun c_42 => ?_) (fun c_43 => ?_)
        · have hw := hw_44 c_42
          refine v_iconst dX0_matchesOf_100 ic_0 ?_
          refine v_sub [0, 1, 2, 3, 4, 5, 7] rfl ?_
          exact b_X0_matchesOf_101 hk24 (fun q0 q1 q2 q3 q4 q5 z => ih q0 q1 q2 q3 q4 q5 z) x3 (some a_8) x5 x7 (nI 0) h_41 hw
        · have hw := hw_45 c_43
          refine v_iconst dX0_matchesOf_96 ic_1 ?_
          refine v_goto (tgt := 101) dX0_matchesOf_97 (by decide) ?_
          refine v_sub [0, 1, 2, 3, 4, 5, 7] rfl ?_
          exact b_X0_matchesOf_101 hk24 (fun q0 q1 q2 q3 q4 q5 z => ih q0 q1 q2 q3 q4 q5 z) x3 (some a_8) x5 x7 (nI 1) h_41 hw
theorem b_X0_matchesOf_24 {post : (Int32) → (AH) → Prop}   {b0 : Nat} {x1 : Int32} {x2 : Int32}    : ∀ (n0 : Nat) (x3 : Int32) (x4 : Option Nat) (x5 : Int32) (h : AH), w_X0_matchesOf_24 post b0 x1 x2 n0 x3 x4 x5 h → VV l E X cX0_matchesOf RX0 "matchesOf" 8 r_X0_matchesOf (some .int) (vpi (fun (r : Int32) (h' : AH) => post r h')) h 0 0 24 [(0, va_rf (some b0)), (1, .int x1), (2, .int x2), (3, .int x3), (4, va_rf x4), (5, .int x5)] [] := by
  intro n0
  induction n0 with
  | zero =>
    intro x3 x4 x5 h hw
    exact hw.elim
  | succ n0 ih =>
    intro x3 x4 x5 h hw
    refine v_iload (q := 5) dX0_matchesOf_24 rfl ?_
    refine v_aload_n (q := 0) dX0_matchesOf_26 rfl rfl ?_
    obtain ⟨fs_54, r_57, e_55, e_56, hw⟩ := hw
    refine v_get in_X0 (ci := 0) rfl 1 (Nat.le_of_ble_eq_true rfl) q319 rfl dX0_matchesOf_27 e_55 e_56 ?_
    obtain ⟨a_58, ea_58, hw⟩ := hw
    subst ea_58
    obtain ⟨fs_59, r_62, e_60, e_61, hw⟩ := hw
    refine v_getN in_X1 (ci := 1) rfl 5 (Nat.le_of_ble_eq_true rfl) q230 rfl dX0_matchesOf_30 e_60 e_61 ?_
    obtain ⟨a_63, ea_63, hw⟩ := hw
    subst ea_63
    obtain ⟨fs_70, e_71, hw⟩ := hw
    refine v_callV q413 q414 q415 q108 q416 (ci := 2) rfl e_71 n_J2_size ⟨Nat.le_of_ble_eq_true rfl, Nat.le_of_ble_eq_true rfl⟩ [] [.int x5] (met_J2_size hw) rfl (Nat.le_of_ble_eq_true rfl) ⟨Nat.le_refl _, Nat.le_refl _⟩ dX0_matchesOf_33 rfl (v_ki (fun z_64 h1 hv => ?_))
    clear hw
    obtain ⟨e9, hw⟩ := hv
    refine v_heap e9 ?_
    clear e9
    obtain ⟨hw_67, hw_68⟩ := hw
    refine v_icmp_ge (tgt := 128) dX0_matchesOf_36 (by decide) (fun c_65 => ?_) (fun c_66 => ?_)
    · have hw := hw_67 c_65
      refine v_iload_n (q := 3) dX0_matchesOf_128 rfl rfl ?_
      exact v_iret dX0_matchesOf_129 rfl ⟨_, rfl, hw⟩
    · have hw := hw_68 c_66
      refine v_iconst dX0_matchesOf_39 ic_0 ?_
      refine v_istore (lv1 := [(6, .int (nI 0)), (0, va_rf (some b0)), (1, .int x1), (2, .int x2), (3, .int x3), (4, va_rf x4), (5, .int x5)]) dX0_matchesOf_40 (Nat.le_of_ble_eq_true rfl) rfl ?_
      refine v_iconst dX0_matchesOf_42 ic_0 ?_
      refine v_istore (lv1 := [(7, .int (nI 0)), (6, .int (nI 0)), (0, va_rf (some b0)), (1, .int x1), (2, .int x2), (3, .int x3), (4, va_rf x4), (5, .int x5)]) dX0_matchesOf_43 (Nat.le_of_ble_eq_true rfl) rfl ?_
      obtain ⟨n_69, hw⟩ := hw
      refine v_sub [2, 3, 4, 5, 6, 7, 1, 0] rfl ?_
      exact b_X0_matchesOf_45 (fun q0 q1 q2 q3 z => ih q0 q1 q2 q3 z) n_69 x3 x4 x5 (nI 0) (nI 0) h hw
theorem e_X0_matchesOf {post : (Int32) → (AH) → Prop}   {b0 : Nat} {x1 : Int32} {x2 : Int32} {h : AH}  (hw : w_X0_matchesOf post  b0 x1 x2 h) : VV l E X cX0_matchesOf RX0 "matchesOf" 8 r_X0_matchesOf (some .int) (vpi (fun (r : Int32) (h' : AH) => post r h')) h 0 0 0 [(0, va_rf (some b0)), (1, .int x1), (2, .int x2)] [] := by
  refine v_iconst dX0_matchesOf_0 ic_0 ?_
  refine v_istore_n (lv1 := [(3, .int (nI 0)), (0, va_rf (some b0)), (1, .int x1), (2, .int x2)]) dX0_matchesOf_1 rfl (Nat.le_of_ble_eq_true rfl) rfl ?_
  refine v_aload_n (q := 1) dX0_matchesOf_2 rfl rfl ?_
  obtain ⟨fs_72, r_75, e_73, e_74, hw⟩ := hw
  refine v_get in_X0 (ci := 0) rfl 1 (Nat.le_of_ble_eq_true rfl) q319 rfl dX0_matchesOf_3 e_73 e_74 ?_
  obtain ⟨a_76, ea_76, hw⟩ := hw
  subst ea_76
  obtain ⟨fs_77, r_80, e_78, e_79, hw⟩ := hw
  refine v_getN in_X1 (ci := 1) rfl 4 (Nat.le_of_ble_eq_true rfl) q228 rfl dX0_matchesOf_6 e_78 e_79 ?_
  refine v_iload_n (q := 2) dX0_matchesOf_9 rfl rfl ?_
  obtain ⟨a_81, ea_81, hw⟩ := hw
  subst ea_81
  obtain ⟨fs_91, e_92, hw⟩ := hw
  refine v_callV q577 q578 q579 q108 q580 (ci := 2) rfl e_92 n_J2_get ⟨Nat.le_of_ble_eq_true rfl, Nat.le_of_ble_eq_true rfl⟩ [.int x1] [] (met_J2_get hw) rfl (Nat.zero_le _) ⟨Nat.le_refl _, Nat.le_refl _⟩ dX0_matchesOf_10 rfl (v_kq (fun r_82 h1 hv => ?_))
  clear hw
  obtain ⟨e9, hw⟩ := hv
  refine v_heap e9 ?_
  clear e9
  obtain ⟨a_83, ea_83, hw⟩ := hw
  subst ea_83
  obtain ⟨fs_84, e_85, hw⟩ := hw
  refine v_cast (ci := 8) rfl q417 dX0_matchesOf_13 e_85 ?_
  obtain ⟨fs_86, r_89, e_87, e_88, hw⟩ := hw
  refine v_getN in_X7 (ci := 8) rfl 4 (Nat.le_of_ble_eq_true rfl) q433 rfl dX0_matchesOf_16 e_87 e_88 ?_
  refine v_astore (lv1 := [(4, va_rf r_89), (3, .int (nI 0)), (0, va_rf (some b0)), (1, .int x1), (2, .int x2)]) dX0_matchesOf_19 (Nat.le_of_ble_eq_true rfl) rfl ?_
  refine v_iconst dX0_matchesOf_21 ic_0 ?_
  refine v_istore (lv1 := [(5, .int (nI 0)), (4, va_rf r_89), (3, .int (nI 0)), (0, va_rf (some b0)), (1, .int x1), (2, .int x2)]) dX0_matchesOf_22 (Nat.le_of_ble_eq_true rfl) (by cases r_89 <;> rfl) ?_
  obtain ⟨n_90, hw⟩ := hw
  refine v_sub [3, 4, 5, 2, 1, 0] rfl ?_
  exact b_X0_matchesOf_24 n_90 (nI 0) r_89 (nI 0) h hw
theorem met_X0_matchesOf {post : (Int32) → (AH) → Prop}   {b0 : Nat} {x1 : Int32} {x2 : Int32} {h : AH}  (hw : w_X0_matchesOf post  b0 x1 x2 h) : Mt l E yX0_matchesOf (ws_ yX0_matchesOf cX0_matchesOf 8 (some .int)) r_X0_matchesOf [va_rf (some b0), .int x1, .int x2] h (vpi (fun (r : Int32) (h' : AH) => post r h')) := v_entry (by decide +kernel) (Nat.le_of_ble_eq_true rfl) rfl (fun _ => e_X0_matchesOf hw)
/-! X0_matches -/
abbrev r_X0_matches : Room := { frames := 4, cells := 0, slots := 0, locals := 91 }
theorem n_X0_matches : vdn yX0_matches 2 := ⟨by decide +kernel, by decide +kernel, by decide +kernel⟩
def w_X0_matches (post : (Int32) → (AH) → Prop) (b0 : Nat) (x1 : Int32) (x2 : Int32) (h : AH) : Prop :=
 (∃ fs_23 : List Value, h b0 = some (.inr (0, fs_23)) ∧ (w_X0_isBook (fun (z_1 : Int32) => ((¬ z_1 = 0 → (w_X0_isBound (fun (z_6 : Int32) => ((z_6 = 0 → (∃ fs_13 : List Value, h b0 = some (.inr (0, fs_13)) ∧ (w_X0_refuse (fun (z_11 : Int32) (h_12 : AH) => (post z_11 h_12)) b0 (-3) h))) ∧ (¬ z_6 = 0 → (∃ fs_17 : List Value, h b0 = some (.inr (0, fs_17)) ∧ (w_X0_matchesOf (fun (z_15 : Int32) (h_16 : AH) => (post z_15 h_16)) b0 x1 x2 h))))) x2)) ∧ (z_1 = 0 → (∃ fs_21 : List Value, h b0 = some (.inr (0, fs_21)) ∧ (w_X0_refuse (fun (z_19 : Int32) (h_20 : AH) => (post z_19 h_20)) b0 (-2) h))))) b0 x1 h))
theorem e_X0_matches {post : (Int32) → (AH) → Prop}   {b0 : Nat} {x1 : Int32} {x2 : Int32} {h : AH}  (hw : w_X0_matches post  b0 x1 x2 h) : VV l E X cX0_matches RX0 "matches" 3 r_X0_matches (some .int) (vpi (fun (r : Int32) (h' : AH) => post r h')) h 0 0 0 [(0, va_rf (some b0)), (1, .int x1), (2, .int x2)] [] := by
  refine v_aload_n (q := 0) dX0_matches_0 rfl rfl ?_
  refine v_iload_n (q := 1) dX0_matches_1 rfl rfl ?_
  obtain ⟨fs_23, e_24, hw⟩ := hw
  refine v_callV q529 q531 qs5 q104 q532 (ci := 0) rfl e_24 n_X0_isBook ⟨Nat.le_of_ble_eq_true rfl, Nat.le_of_ble_eq_true rfl⟩ [.int x1] [] (met_X0_isBook hw) rfl (Nat.zero_le _) ⟨Nat.le_refl _, Nat.le_refl _⟩ dX0_matches_2 rfl (v_ki (fun z_1 h1 hv => ?_))
  clear hw
  obtain ⟨e9, hw⟩ := hv
  refine v_heap e9 ?_
  clear e9
  obtain ⟨hw_4, hw_5⟩ := hw
  refine v_if_ne (tgt := 15) dX0_matches_5 (by decide) (fun c_2 => ?_) (fun c_3 => ?_)
  · have hw := hw_4 c_2
    refine v_iload_n (q := 2) dX0_matches_15 rfl rfl ?_
    refine v_callS q1163 q1164 q104 q1165 n_X0_isBound ⟨Nat.le_of_ble_eq_true rfl, Nat.le_of_ble_eq_true rfl⟩ [.int x2] [] (met_X0_isBound hw) rfl (Nat.zero_le _) ⟨Nat.le_refl _, Nat.le_refl _⟩ dX0_matches_16 rfl (v_ki (fun z_6 h1 hv => ?_))
    clear hw
    obtain ⟨e9, hw⟩ := hv
    refine v_heap e9 ?_
    clear e9
    obtain ⟨hw_9, hw_10⟩ := hw
    refine v_if_eq (tgt := 31) dX0_matches_19 (by decide) (fun c_7 => ?_) (fun c_8 => ?_)
    · have hw := hw_9 c_7
      refine v_aload_n (q := 0) dX0_matches_31 rfl rfl ?_
      refine v_bipush dX0_matches_32 bp_m3 ?_
      obtain ⟨fs_13, e_14, hw⟩ := hw
      refine v_callV q396 q398 qs0 q104 q399 (ci := 0) rfl e_14 n_X0_refuse ⟨Nat.le_of_ble_eq_true rfl, Nat.le_of_ble_eq_true rfl⟩ [.int (-3)] [] (met_X0_refuse hw) rfl (Nat.zero_le _) ⟨Nat.le_refl _, Nat.le_refl _⟩ dX0_matches_34 rfl (v_ki (fun z_11 h_12 hv => ?_))
      clear hw
      have hw := hv
      clear hv
      exact v_iret dX0_matches_37 rfl ⟨_, rfl, hw⟩
    · have hw := hw_10 c_8
      refine v_aload_n (q := 0) dX0_matches_22 rfl rfl ?_
      refine v_iload_n (q := 1) dX0_matches_23 rfl rfl ?_
      refine v_iload_n (q := 2) dX0_matches_24 rfl rfl ?_
      obtain ⟨fs_17, e_18, hw⟩ := hw
      refine v_callV q1181 q1183 qs42 q104 q1184 (ci := 0) rfl e_18 n_X0_matchesOf ⟨Nat.le_of_ble_eq_true rfl, Nat.le_of_ble_eq_true rfl⟩ [.int x1, .int x2] [] (met_X0_matchesOf hw) rfl (Nat.zero_le _) ⟨Nat.le_refl _, Nat.le_refl _⟩ dX0_matches_25 rfl (v_ki (fun z_15 h_16 hv => ?_))
      clear hw
      have hw := hv
      clear hv
      refine v_goto (tgt := 37) dX0_matches_28 (by decide) ?_
      exact v_iret dX0_matches_37 rfl ⟨_, rfl, hw⟩
  · have hw := hw_5 c_3
    refine v_aload_n (q := 0) dX0_matches_8 rfl rfl ?_
    refine v_bipush dX0_matches_9 bp_m2 ?_
    obtain ⟨fs_21, e_22, hw⟩ := hw
    refine v_callV q396 q398 qs0 q104 q399 (ci := 0) rfl e_22 n_X0_refuse ⟨Nat.le_of_ble_eq_true rfl, Nat.le_of_ble_eq_true rfl⟩ [.int (-2)] [] (met_X0_refuse hw) rfl (Nat.zero_le _) ⟨Nat.le_refl _, Nat.le_refl _⟩ dX0_matches_11 rfl (v_ki (fun z_19 h_20 hv => ?_))
    clear hw
    have hw := hv
    clear hv
    exact v_iret dX0_matches_14 rfl ⟨_, rfl, hw⟩
theorem met_X0_matches {post : (Int32) → (AH) → Prop}   {b0 : Nat} {x1 : Int32} {x2 : Int32} {h : AH}  (hw : w_X0_matches post  b0 x1 x2 h) : Mt l E yX0_matches (ws_ yX0_matches cX0_matches 3 (some .int)) r_X0_matches [va_rf (some b0), .int x1, .int x2] h (vpi (fun (r : Int32) (h' : AH) => post r h')) := v_entry (by decide +kernel) (Nat.le_of_ble_eq_true rfl) rfl (fun _ => e_X0_matches hw)
/-! X0_most -/
abbrev r_X0_most : Room := { frames := 4, cells := 0, slots := 0, locals := 91 }
theorem n_X0_most : vdn yX0_most 2 := ⟨by decide +kernel, by decide +kernel, by decide +kernel⟩
def w_X0_most_112 (post : (Int32) → (AH) → Prop) (k64 : (Int32) → (Int32) → (Int32) → (Int32) → (AH) → Prop) (b0 : Nat) (x1 : Int32) (x2 : Int32) (x3 : Int32) (x4 : Int32) (x5 : Int32) (x6 : Int32) (h : AH) : Prop :=
 (∀ z_1 : Int32, z_1 = x6 + (nI 1) → (k64 x3 x4 x5 z_1 h))
def w_X0_most_64 (post : (Int32) → (AH) → Prop) (b0 : Nat) (x1 : Int32) (x2 : Int32) : Nat → (Int32) → (Int32) → (Int32) → (Int32) → (AH) → Prop
 | 0, _, _, _, _, _ => False
 | n0 + 1, x3, x4, x5, x6, h =>
 (∃ (fs_2 : List Value) (r_5 : Option Nat), h b0 = some (.inr (0, fs_2)) ∧ fs_2[1]? = some (va_rf r_5) ∧ (∃ a_6 : Nat, r_5 = some a_6 ∧ (∃ (fs_7 : List Value) (r_10 : Option Nat), h a_6 = some (.inr (1, fs_7)) ∧ fs_7[4]? = some (va_rf r_10) ∧ (∃ a_11 : Nat, r_10 = some a_11 ∧ (∃ fs_44 : List Value, h a_11 = some (.inr (2, fs_44)) ∧ (w_J2_size (fun (z_12 : Int32) => ((z_12 ≤ x6 → ((¬ x2 = (nI 2) → (∃ (fs_21 : List Value) (r_24 : Option Nat), h b0 = some (.inr (0, fs_21)) ∧ fs_21[1]? = some (va_rf r_24) ∧ (∃ a_25 : Nat, r_24 = some a_25 ∧ (∃ (fs_26 : List Value) (r_29 : Option Nat), h a_25 = some (.inr (1, fs_26)) ∧ fs_26[4]? = some (va_rf r_29) ∧ (∃ a_30 : Nat, r_29 = some a_30 ∧ (∃ fs_33 : List Value, h a_30 = some (.inr (2, fs_33)) ∧ (w_J2_size (fun (z_31 : Int32) => (w_X0_part (fun (y_32 : Int64) => (post ((y_32).toInt32) h)) (((x4).toInt64) * ((z_31).toInt64)) ((x5).toInt64) x2)) a_30 h))))))) ∧ (x2 = (nI 2) → (post x3 h)))) ∧ (¬ z_12 ≤ x6 → (∃ fs_42 : List Value, h b0 = some (.inr (0, fs_42)) ∧ (w_X0_matchesOf (fun (z_35 : Int32) (h_36 : AH) => (∀ z_37 : Int32, z_37 = (x5 + z_35) → ((x4 < z_35 → (w_X0_most_112 post (fun (q0 : Int32) (q1 : Int32) (q2 : Int32) (q3 : Int32) (q4 : AH) => w_X0_most_64 post b0 x1 x2 n0 q0 q1 q2 q3 q4) b0 x1 x2 x6 z_35 z_37 x6 h_36)) ∧ (¬ x4 < z_35 → (w_X0_most_112 post (fun (q0 : Int32) (q1 : Int32) (q2 : Int32) (q3 : Int32) (q4 : AH) => w_X0_most_64 post b0 x1 x2 n0 q0 q1 q2 q3 q4) b0 x1 x2 x3 x4 z_37 x6 h_36))))) b0 x6 x1 h))))) a_11 h))))))
def w_X0_most (post : (Int32) → (AH) → Prop) (b0 : Nat) (x1 : Int32) (x2 : Int32) (h : AH) : Prop :=
 (w_X0_in (fun (z_46 : Int32) => ((¬ z_46 = 0 → (w_X0_isBound (fun (z_51 : Int32) => ((¬ z_51 = 0 → (∃ (fs_56 : List Value) (r_59 : Option Nat), h b0 = some (.inr (0, fs_56)) ∧ fs_56[1]? = some (va_rf r_59) ∧ (∃ a_60 : Nat, r_59 = some a_60 ∧ (∃ (fs_61 : List Value) (r_64 : Option Nat), h a_60 = some (.inr (1, fs_61)) ∧ fs_61[4]? = some (va_rf r_64) ∧ (∃ a_65 : Nat, r_64 = some a_65 ∧ (∃ fs_76 : List Value, h a_65 = some (.inr (2, fs_76)) ∧ (w_J2_isEmpty (fun (z_66 : Int32) => ((z_66 = 0 → (∃ n1 : Nat, (w_X0_most_64 post b0 x1 x2 n1 (nI 0) (-1) (nI 0) (nI 0) h))) ∧ (¬ z_66 = 0 → (∃ fs_74 : List Value, h b0 = some (.inr (0, fs_74)) ∧ (w_X0_refuse (fun (z_72 : Int32) (h_73 : AH) => (post z_72 h_73)) b0 (-5) h))))) a_65 h))))))) ∧ (z_51 = 0 → (∃ fs_80 : List Value, h b0 = some (.inr (0, fs_80)) ∧ (w_X0_refuse (fun (z_78 : Int32) (h_79 : AH) => (post z_78 h_79)) b0 (-3) h))))) x1)) ∧ (z_46 = 0 → (∃ fs_84 : List Value, h b0 = some (.inr (0, fs_84)) ∧ (w_X0_refuse (fun (z_82 : Int32) (h_83 : AH) => (post z_82 h_83)) b0 (-2) h))))) ((x2).toInt64) (lN 0) (lN 2))
theorem b_X0_most_112 {post : (Int32) → (AH) → Prop}   {b0 : Nat} {x1 : Int32} {x2 : Int32} {k64 : (Int32) → (Int32) → (Int32) → (Int32) → (AH) → Prop}  (hk64 : ∀ (x3 : Int32) (x4 : Int32) (x5 : Int32) (x6 : Int32) (h : AH), k64 x3 x4 x5 x6 h → VV l E X cX0_most RX0 "most" 8 r_X0_most (some .int) (vpi (fun (r : Int32) (h' : AH) => post r h')) h 0 0 64 [(0, va_rf (some b0)), (1, .int x1), (2, .int x2), (3, .int x3), (4, .int x4), (5, .int x5), (6, .int x6)] []) (x3 : Int32) (x4 : Int32) (x5 : Int32) (x6 : Int32) (h : AH) (hw : w_X0_most_112 post k64 b0 x1 x2 x3 x4 x5 x6 h) : VV l E X cX0_most RX0 "most" 8 r_X0_most (some .int) (vpi (fun (r : Int32) (h' : AH) => post r h')) h 0 0 112 [(0, va_rf (some b0)), (1, .int x1), (2, .int x2), (3, .int x3), (4, .int x4), (5, .int x5), (6, .int x6)] [] := by
  obtain ⟨z_1, e_1⟩ : ∃ z9 : Int32, z9 = x6 + (nI 1) := ⟨_, rfl⟩
  replace hw := hw z_1 e_1
  refine v_iinc (q := 6) (v := z_1) (lv1 := [(6, .int z_1), (0, va_rf (some b0)), (1, .int x1), (2, .int x2), (3, .int x3), (4, .int x4), (5, .int x5)]) dX0_most_112 rfl (by rw [e_1, ic_1]) (Nat.le_of_ble_eq_true rfl) rfl ?_
  refine v_goto (tgt := 64) dX0_most_115 (by decide) ?_
  refine v_sub [1, 2, 3, 4, 5, 6, 0] rfl ?_
  exact hk64 x3 x4 x5 z_1 h hw
theorem b_X0_most_64 {post : (Int32) → (AH) → Prop}   {b0 : Nat} {x1 : Int32} {x2 : Int32}    : ∀ (n0 : Nat) (x3 : Int32) (x4 : Int32) (x5 : Int32) (x6 : Int32) (h : AH), w_X0_most_64 post b0 x1 x2 n0 x3 x4 x5 x6 h → VV l E X cX0_most RX0 "most" 8 r_X0_most (some .int) (vpi (fun (r : Int32) (h' : AH) => post r h')) h 0 0 64 [(0, va_rf (some b0)), (1, .int x1), (2, .int x2), (3, .int x3), (4, .int x4), (5, .int x5), (6, .int x6)] [] := by
  intro n0
  induction n0 with
  | zero =>
    intro x3 x4 x5 x6 h hw
    exact hw.elim
  | succ n0 ih =>
    intro x3 x4 x5 x6 h hw
    refine v_iload (q := 6) dX0_most_64 rfl ?_
    refine v_aload_n (q := 0) dX0_most_66 rfl rfl ?_
    obtain ⟨fs_2, r_5, e_3, e_4, hw⟩ := hw
    refine v_get in_X0 (ci := 0) rfl 1 (Nat.le_of_ble_eq_true rfl) q319 rfl dX0_most_67 e_3 e_4 ?_
    obtain ⟨a_6, ea_6, hw⟩ := hw
    subst ea_6
    obtain ⟨fs_7, r_10, e_8, e_9, hw⟩ := hw
    refine v_getN in_X1 (ci := 1) rfl 4 (Nat.le_of_ble_eq_true rfl) q228 rfl dX0_most_70 e_8 e_9 ?_
    obtain ⟨a_11, ea_11, hw⟩ := hw
    subst ea_11
    obtain ⟨fs_44, e_45, hw⟩ := hw
    refine v_callV q413 q414 q415 q108 q416 (ci := 2) rfl e_45 n_J2_size ⟨Nat.le_of_ble_eq_true rfl, Nat.le_of_ble_eq_true rfl⟩ [] [.int x6] (met_J2_size hw) rfl (Nat.le_of_ble_eq_true rfl) ⟨Nat.le_refl _, Nat.le_refl _⟩ dX0_most_73 rfl (v_ki (fun z_12 h1 hv => ?_))
    clear hw
    obtain ⟨e9, hw⟩ := hv
    refine v_heap e9 ?_
    clear e9
    obtain ⟨hw_15, hw_16⟩ := hw
    refine v_icmp_ge (tgt := 118) dX0_most_76 (by decide) (fun c_13 => ?_) (fun c_14 => ?_)
    · have hw := hw_15 c_13
      refine v_iload_n (q := 2) dX0_most_118 rfl rfl ?_
      refine v_iconst dX0_most_119 ic_2 ?_
      obtain ⟨hw_19, hw_20⟩ := hw
      refine v_icmp_ne (tgt := 127) dX0_most_120 (by decide) (fun c_17 => ?_) (fun c_18 => ?_)
      · have hw := hw_19 c_17
        refine v_iload (q := 4) dX0_most_127 rfl ?_
        refine v_i2l dX0_most_129 ?_
        refine v_aload_n (q := 0) dX0_most_130 rfl rfl ?_
        obtain ⟨fs_21, r_24, e_22, e_23, hw⟩ := hw
        refine v_get in_X0 (ci := 0) rfl 1 (Nat.le_of_ble_eq_true rfl) q319 rfl dX0_most_131 e_22 e_23 ?_
        obtain ⟨a_25, ea_25, hw⟩ := hw
        subst ea_25
        obtain ⟨fs_26, r_29, e_27, e_28, hw⟩ := hw
        refine v_getN in_X1 (ci := 1) rfl 4 (Nat.le_of_ble_eq_true rfl) q228 rfl dX0_most_134 e_27 e_28 ?_
        obtain ⟨a_30, ea_30, hw⟩ := hw
        subst ea_30
        obtain ⟨fs_33, e_34, hw⟩ := hw
        refine v_callV q413 q414 q415 q108 q416 (ci := 2) rfl e_34 n_J2_size ⟨Nat.le_of_ble_eq_true rfl, Nat.le_of_ble_eq_true rfl⟩ [] [.long ((x4).toInt64)] (met_J2_size hw) rfl (Nat.le_of_ble_eq_true rfl) ⟨Nat.le_refl _, Nat.le_refl _⟩ dX0_most_137 rfl (v_ki (fun z_31 h1 hv => ?_))
        clear hw
        obtain ⟨e9, hw⟩ := hv
        refine v_heap e9 ?_
        clear e9
        refine v_i2l dX0_most_140 ?_
        refine v_lmul dX0_most_141 ?_
        refine v_iload (q := 5) dX0_most_142 rfl ?_
        refine v_i2l dX0_most_144 ?_
        refine v_iload_n (q := 2) dX0_most_145 rfl rfl ?_
        refine v_callS q1170 q1171 q104 q1172 n_X0_part ⟨Nat.le_of_ble_eq_true rfl, Nat.le_of_ble_eq_true rfl⟩ [.long (((x4).toInt64) * ((z_31).toInt64)), .long ((x5).toInt64), .int x2] [] (met_X0_part hw) rfl (Nat.zero_le _) ⟨Nat.le_refl _, Nat.le_refl _⟩ dX0_most_146 rfl (v_kl (fun y_32 h1 hv => ?_))
        clear hw
        obtain ⟨e9, hw⟩ := hv
        refine v_heap e9 ?_
        clear e9
        refine v_l2i dX0_most_149 ?_
        exact v_iret dX0_most_150 rfl ⟨_, rfl, hw⟩
      · have hw := hw_20 c_18
        refine v_iload_n (q := 3) dX0_most_123 rfl rfl ?_
        refine v_goto (tgt := 150) dX0_most_124 (by decide) ?_
        exact v_iret dX0_most_150 rfl ⟨_, rfl, hw⟩
    · have hw := hw_16 c_14
      refine v_aload_n (q := 0) dX0_most_79 rfl rfl ?_
      refine v_iload (q := 6) dX0_most_80 rfl ?_
      refine v_iload_n (q := 1) dX0_most_82 rfl rfl ?_
      obtain ⟨fs_42, e_43, hw⟩ := hw
      refine v_callV q1181 q1183 qs42 q104 q1184 (ci := 0) rfl e_43 n_X0_matchesOf ⟨Nat.le_of_ble_eq_true rfl, Nat.le_of_ble_eq_true rfl⟩ [.int x6, .int x1] [] (met_X0_matchesOf hw) rfl (Nat.zero_le _) ⟨Nat.le_refl _, Nat.le_refl _⟩ dX0_most_83 rfl (v_ki (fun z_35 h_36 hv => ?_))
      clear hw
      have hw := hv
      clear hv
      refine v_istore (lv1 := [(7, .int z_35), (0, va_rf (some b0)), (1, .int x1), (2, .int x2), (3, .int x3), (4, .int x4), (5, .int x5), (6, .int x6)]) dX0_most_86 (Nat.le_of_ble_eq_true rfl) rfl ?_
      refine v_iload (q := 6) dX0_most_88 rfl ?_
      refine v_iload (q := 0) dX0_most_90 rfl ?_
      refine v_iadd dX0_most_92 ?_
      refine v_topi (fun z_37 e_37 => ?_)
      replace hw := hw z_37 e_37
      refine v_istore (lv1 := [(5, .int z_37), (7, .int z_35), (0, va_rf (some b0)), (1, .int x1), (2, .int x2), (3, .int x3), (4, .int x4), (6, .int x6)]) dX0_most_93 (Nat.le_of_ble_eq_true rfl) rfl ?_
      refine v_iload (q := 1) dX0_most_95 rfl ?_
      refine v_iload (q := 6) dX0_most_97 rfl ?_
      obtain ⟨hw_40, hw_41⟩ := hw
      refine v_icmp_gt (tgt := 105) dX0_most_99 (by decide) (fun c_38 => ?_) (fun c_39 => ?_)
      · have hw := hw_40 c_38
        refine v_iload (q := 1) dX0_most_105 rfl ?_
        refine v_istore (lv1 := [(4, .int z_35), (5, .int z_37), (7, .int z_35), (0, va_rf (some b0)), (1, .int x1), (2, .int x2), (3, .int x3), (6, .int x6)]) dX0_most_107 (Nat.le_of_ble_eq_true rfl) rfl ?_
        refine v_iload (q := 7) dX0_most_109 rfl ?_
        refine v_istore_n (lv1 := [(3, .int x6), (4, .int z_35), (5, .int z_37), (7, .int z_35), (0, va_rf (some b0)), (1, .int x1), (2, .int x2), (6, .int x6)]) dX0_most_111 rfl (Nat.le_of_ble_eq_true rfl) rfl ?_
        refine v_sub [4, 5, 6, 0, 1, 2, 7] rfl ?_
        exact b_X0_most_112 (fun q0 q1 q2 q3 q4 z => ih q0 q1 q2 q3 q4 z) x6 z_35 z_37 x6 h_36 hw
      · have hw := hw_41 c_39
        refine v_goto (tgt := 112) dX0_most_102 (by decide) ?_
        refine v_sub [2, 3, 4, 5, 6, 0, 7] rfl ?_
        exact b_X0_most_112 (fun q0 q1 q2 q3 q4 z => ih q0 q1 q2 q3 q4 z) x3 x4 z_37 x6 h_36 hw
theorem e_X0_most {post : (Int32) → (AH) → Prop}   {b0 : Nat} {x1 : Int32} {x2 : Int32} {h : AH}  (hw : w_X0_most post  b0 x1 x2 h) : VV l E X cX0_most RX0 "most" 8 r_X0_most (some .int) (vpi (fun (r : Int32) (h' : AH) => post r h')) h 0 0 0 [(0, va_rf (some b0)), (1, .int x1), (2, .int x2)] [] := by
  refine v_iload_n (q := 2) dX0_most_0 rfl rfl ?_
  refine v_i2l dX0_most_1 ?_
  refine v_lconst (v := lN 0) dX0_most_2 rfl ?_
  refine v_ldc2 (v := (lN 2)) dX0_most_3 q524 ?_
  refine v_callS q393 q394 q104 q395 n_X0_in ⟨Nat.le_of_ble_eq_true rfl, Nat.le_of_ble_eq_true rfl⟩ [.long ((x2).toInt64), .long (lN 0), .long (lN 2)] [] (met_X0_in hw) rfl (Nat.zero_le _) ⟨Nat.le_refl _, Nat.le_refl _⟩ dX0_most_6 rfl (v_ki (fun z_46 h1 hv => ?_))
  clear hw
  obtain ⟨e9, hw⟩ := hv
  refine v_heap e9 ?_
  clear e9
  obtain ⟨hw_49, hw_50⟩ := hw
  refine v_if_ne (tgt := 19) dX0_most_9 (by decide) (fun c_47 => ?_) (fun c_48 => ?_)
  · have hw := hw_49 c_47
    refine v_iload_n (q := 1) dX0_most_19 rfl rfl ?_
    refine v_callS q1163 q1164 q104 q1165 n_X0_isBound ⟨Nat.le_of_ble_eq_true rfl, Nat.le_of_ble_eq_true rfl⟩ [.int x1] [] (met_X0_isBound hw) rfl (Nat.zero_le _) ⟨Nat.le_refl _, Nat.le_refl _⟩ dX0_most_20 rfl (v_ki (fun z_51 h1 hv => ?_))
    clear hw
    obtain ⟨e9, hw⟩ := hv
    refine v_heap e9 ?_
    clear e9
    obtain ⟨hw_54, hw_55⟩ := hw
    refine v_if_ne (tgt := 33) dX0_most_23 (by decide) (fun c_52 => ?_) (fun c_53 => ?_)
    · have hw := hw_54 c_52
      refine v_aload_n (q := 0) dX0_most_33 rfl rfl ?_
      obtain ⟨fs_56, r_59, e_57, e_58, hw⟩ := hw
      refine v_get in_X0 (ci := 0) rfl 1 (Nat.le_of_ble_eq_true rfl) q319 rfl dX0_most_34 e_57 e_58 ?_
      obtain ⟨a_60, ea_60, hw⟩ := hw
      subst ea_60
      obtain ⟨fs_61, r_64, e_62, e_63, hw⟩ := hw
      refine v_getN in_X1 (ci := 1) rfl 4 (Nat.le_of_ble_eq_true rfl) q228 rfl dX0_most_37 e_62 e_63 ?_
      obtain ⟨a_65, ea_65, hw⟩ := hw
      subst ea_65
      obtain ⟨fs_76, e_77, hw⟩ := hw
      refine v_callV q986 q987 q988 q108 q989 (ci := 2) rfl e_77 n_J2_isEmpty ⟨Nat.le_of_ble_eq_true rfl, Nat.le_of_ble_eq_true rfl⟩ [] [] (met_J2_isEmpty hw) rfl (Nat.zero_le _) ⟨Nat.le_refl _, Nat.le_refl _⟩ dX0_most_40 rfl (v_ki (fun z_66 h1 hv => ?_))
      clear hw
      obtain ⟨e9, hw⟩ := hv
      refine v_heap e9 ?_
      clear e9
      obtain ⟨hw_69, hw_70⟩ := hw
      refine v_if_eq (tgt := 53) dX0_most_43 (by decide) (fun c_67 => ?_) (fun c_68 => ?_)
      · have hw := hw_69 c_67
        refine v_iconst dX0_most_53 ic_0 ?_
        refine v_istore_n (lv1 := [(3, .int (nI 0)), (0, va_rf (some b0)), (1, .int x1), (2, .int x2)]) dX0_most_54 rfl (Nat.le_of_ble_eq_true rfl) rfl ?_
        refine v_iconst dX0_most_55 ic_m1 ?_
        refine v_istore (lv1 := [(4, .int (-1)), (3, .int (nI 0)), (0, va_rf (some b0)), (1, .int x1), (2, .int x2)]) dX0_most_56 (Nat.le_of_ble_eq_true rfl) rfl ?_
        refine v_iconst dX0_most_58 ic_0 ?_
        refine v_istore (lv1 := [(5, .int (nI 0)), (4, .int (-1)), (3, .int (nI 0)), (0, va_rf (some b0)), (1, .int x1), (2, .int x2)]) dX0_most_59 (Nat.le_of_ble_eq_true rfl) rfl ?_
        refine v_iconst dX0_most_61 ic_0 ?_
        refine v_istore (lv1 := [(6, .int (nI 0)), (5, .int (nI 0)), (4, .int (-1)), (3, .int (nI 0)), (0, va_rf (some b0)), (1, .int x1), (2, .int x2)]) dX0_most_62 (Nat.le_of_ble_eq_true rfl) rfl ?_
        obtain ⟨n_71, hw⟩ := hw
        refine v_sub [4, 5, 6, 3, 2, 1, 0] rfl ?_
        exact b_X0_most_64 n_71 (nI 0) (-1) (nI 0) (nI 0) h hw
      · have hw := hw_70 c_68
        refine v_aload_n (q := 0) dX0_most_46 rfl rfl ?_
        refine v_bipush dX0_most_47 bp_m5 ?_
        obtain ⟨fs_74, e_75, hw⟩ := hw
        refine v_callV q396 q398 qs0 q104 q399 (ci := 0) rfl e_75 n_X0_refuse ⟨Nat.le_of_ble_eq_true rfl, Nat.le_of_ble_eq_true rfl⟩ [.int (-5)] [] (met_X0_refuse hw) rfl (Nat.zero_le _) ⟨Nat.le_refl _, Nat.le_refl _⟩ dX0_most_49 rfl (v_ki (fun z_72 h_73 hv => ?_))
        clear hw
        have hw := hv
        clear hv
        exact v_iret dX0_most_52 rfl ⟨_, rfl, hw⟩
    · have hw := hw_55 c_53
      refine v_aload_n (q := 0) dX0_most_26 rfl rfl ?_
      refine v_bipush dX0_most_27 bp_m3 ?_
      obtain ⟨fs_80, e_81, hw⟩ := hw
      refine v_callV q396 q398 qs0 q104 q399 (ci := 0) rfl e_81 n_X0_refuse ⟨Nat.le_of_ble_eq_true rfl, Nat.le_of_ble_eq_true rfl⟩ [.int (-3)] [] (met_X0_refuse hw) rfl (Nat.zero_le _) ⟨Nat.le_refl _, Nat.le_refl _⟩ dX0_most_29 rfl (v_ki (fun z_78 h_79 hv => ?_))
      clear hw
      have hw := hv
      clear hv
      exact v_iret dX0_most_32 rfl ⟨_, rfl, hw⟩
  · have hw := hw_50 c_48
    refine v_aload_n (q := 0) dX0_most_12 rfl rfl ?_
    refine v_bipush dX0_most_13 bp_m2 ?_
    obtain ⟨fs_84, e_85, hw⟩ := hw
    refine v_callV q396 q398 qs0 q104 q399 (ci := 0) rfl e_85 n_X0_refuse ⟨Nat.le_of_ble_eq_true rfl, Nat.le_of_ble_eq_true rfl⟩ [.int (-2)] [] (met_X0_refuse hw) rfl (Nat.zero_le _) ⟨Nat.le_refl _, Nat.le_refl _⟩ dX0_most_15 rfl (v_ki (fun z_82 h_83 hv => ?_))
    clear hw
    have hw := hv
    clear hv
    exact v_iret dX0_most_18 rfl ⟨_, rfl, hw⟩
theorem met_X0_most {post : (Int32) → (AH) → Prop}   {b0 : Nat} {x1 : Int32} {x2 : Int32} {h : AH}  (hw : w_X0_most post  b0 x1 x2 h) : Mt l E yX0_most (ws_ yX0_most cX0_most 8 (some .int)) r_X0_most [va_rf (some b0), .int x1, .int x2] h (vpi (fun (r : Int32) (h' : AH) => post r h')) := v_entry (by decide +kernel) (Nat.le_of_ble_eq_true rfl) rfl (fun _ => e_X0_most hw)
/-! X0_year -/
abbrev r_X0_year : Room := { frames := 2, cells := 0, slots := 0, locals := 45 }
theorem n_X0_year : vdn yX0_year 2 := ⟨by decide +kernel, by decide +kernel, by decide +kernel⟩
def w_X0_year (post : (Int32) → (AH) → Prop) (b0 : Nat) (x1 : Int32) (x2 : Int32) (h : AH) : Prop :=
 (w_X0_in (fun (z_1 : Int32) => ((¬ z_1 = 0 → (w_X0_isDay (fun (z_6 : Int32) => ((¬ z_6 = 0 → (∃ (fs_11 : List Value) (r_14 : Option Nat), h b0 = some (.inr (0, fs_11)) ∧ fs_11[1]? = some (va_rf r_14) ∧ (∃ a_15 : Nat, r_14 = some a_15 ∧ (∃ (fs_16 : List Value) (r_19 : Option Nat), h a_15 = some (.inr (1, fs_16)) ∧ fs_16[11]? = some (va_rf r_19) ∧ (∃ a_20 : Nat, r_19 = some a_20 ∧ (∃ (N_21 : Nat) (g_22 : Nat → Int32), h a_20 = some (.inl (0, N_21, .inl g_22)) ∧ vp_in x1 N_21 ∧ (∀ z_25 : Int32, z_25 = (g_22 (x1).toNatClampNeg) → (∃ (fs_26 : List Value) (r_29 : Option Nat), h b0 = some (.inr (0, fs_26)) ∧ fs_26[1]? = some (va_rf r_29) ∧ (∃ a_30 : Nat, r_29 = some a_30 ∧ (∃ (fs_31 : List Value) (r_34 : Option Nat), h a_30 = some (.inr (1, fs_31)) ∧ fs_31[11]? = some (va_rf r_34) ∧ (∃ a_35 : Nat, r_34 = some a_35 ∧ (∃ (N_36 : Nat) (g_37 : Nat → Int32), h a_35 = some (.inl (0, N_36, .inl g_37)) ∧ vp_in x1 N_36 ∧ ∀ h_40 : AH, h_40 = va_up h a_35 (some (.inl (0, N_36, .inl (upd g_37 (x1).toNatClampNeg x2)))) → (post z_25 h_40))))))))))))) ∧ (z_6 = 0 → (∃ fs_43 : List Value, h b0 = some (.inr (0, fs_43)) ∧ (w_X0_refuse (fun (z_41 : Int32) (h_42 : AH) => (post z_41 h_42)) b0 (-3) h))))) x2)) ∧ (z_1 = 0 → (∃ fs_47 : List Value, h b0 = some (.inr (0, fs_47)) ∧ (w_X0_refuse (fun (z_45 : Int32) (h_46 : AH) => (post z_45 h_46)) b0 (-2) h))))) ((x1).toInt64) (lN 1) (lN 255))
theorem e_X0_year {post : (Int32) → (AH) → Prop}   {b0 : Nat} {x1 : Int32} {x2 : Int32} {h : AH}  (hw : w_X0_year post  b0 x1 x2 h) : VV l E X cX0_year RX0 "year" 4 r_X0_year (some .int) (vpi (fun (r : Int32) (h' : AH) => post r h')) h 0 0 0 [(0, va_rf (some b0)), (1, .int x1), (2, .int x2)] [] := by
  refine v_iload_n (q := 1) dX0_year_0 rfl rfl ?_
  refine v_i2l dX0_year_1 ?_
  refine v_lconst (v := lN 1) dX0_year_2 rfl ?_
  refine v_ldc2 (v := (lN 255)) dX0_year_3 q1205 ?_
  refine v_callS q393 q394 q104 q395 n_X0_in ⟨Nat.le_of_ble_eq_true rfl, Nat.le_of_ble_eq_true rfl⟩ [.long ((x1).toInt64), .long (lN 1), .long (lN 255)] [] (met_X0_in hw) rfl (Nat.zero_le _) ⟨Nat.le_refl _, Nat.le_refl _⟩ dX0_year_6 rfl (v_ki (fun z_1 h1 hv => ?_))
  clear hw
  obtain ⟨e9, hw⟩ := hv
  refine v_heap e9 ?_
  clear e9
  obtain ⟨hw_4, hw_5⟩ := hw
  refine v_if_ne (tgt := 19) dX0_year_9 (by decide) (fun c_2 => ?_) (fun c_3 => ?_)
  · have hw := hw_4 c_2
    refine v_iload_n (q := 2) dX0_year_19 rfl rfl ?_
    refine v_callS q408 q409 q104 q410 n_X0_isDay ⟨Nat.le_of_ble_eq_true rfl, Nat.le_of_ble_eq_true rfl⟩ [.int x2] [] (met_X0_isDay hw) rfl (Nat.zero_le _) ⟨Nat.le_refl _, Nat.le_refl _⟩ dX0_year_20 rfl (v_ki (fun z_6 h1 hv => ?_))
    clear hw
    obtain ⟨e9, hw⟩ := hv
    refine v_heap e9 ?_
    clear e9
    obtain ⟨hw_9, hw_10⟩ := hw
    refine v_if_ne (tgt := 33) dX0_year_23 (by decide) (fun c_7 => ?_) (fun c_8 => ?_)
    · have hw := hw_9 c_7
      refine v_aload_n (q := 0) dX0_year_33 rfl rfl ?_
      obtain ⟨fs_11, r_14, e_12, e_13, hw⟩ := hw
      refine v_get in_X0 (ci := 0) rfl 1 (Nat.le_of_ble_eq_true rfl) q319 rfl dX0_year_34 e_12 e_13 ?_
      obtain ⟨a_15, ea_15, hw⟩ := hw
      subst ea_15
      obtain ⟨fs_16, r_19, e_17, e_18, hw⟩ := hw
      refine v_getN in_X1 (ci := 1) rfl 11 (Nat.le_of_ble_eq_true rfl) q242 rfl dX0_year_37 e_17 e_18 ?_
      refine v_iload_n (q := 1) dX0_year_40 rfl rfl ?_
      obtain ⟨a_20, ea_20, hw⟩ := hw
      subst ea_20
      obtain ⟨N_21, g_22, e_23, hi_24, hw⟩ := hw
      refine v_iald dX0_year_41 e_23 hi_24 ?_
      refine v_topi (fun z_25 e_25 => ?_)
      replace hw := hw z_25 e_25
      refine v_istore_n (lv1 := [(3, .int z_25), (0, va_rf (some b0)), (1, .int x1), (2, .int x2)]) dX0_year_42 rfl (Nat.le_of_ble_eq_true rfl) rfl ?_
      refine v_aload_n (q := 1) dX0_year_43 rfl rfl ?_
      obtain ⟨fs_26, r_29, e_27, e_28, hw⟩ := hw
      refine v_get in_X0 (ci := 0) rfl 1 (Nat.le_of_ble_eq_true rfl) q319 rfl dX0_year_44 e_27 e_28 ?_
      obtain ⟨a_30, ea_30, hw⟩ := hw
      subst ea_30
      obtain ⟨fs_31, r_34, e_32, e_33, hw⟩ := hw
      refine v_getN in_X1 (ci := 1) rfl 11 (Nat.le_of_ble_eq_true rfl) q242 rfl dX0_year_47 e_32 e_33 ?_
      refine v_iload_n (q := 2) dX0_year_50 rfl rfl ?_
      refine v_iload_n (q := 3) dX0_year_51 rfl rfl ?_
      obtain ⟨a_35, ea_35, hw⟩ := hw
      subst ea_35
      obtain ⟨N_36, g_37, e_38, hi_39, hw⟩ := hw
      obtain ⟨h_40, eh_40⟩ : ∃ z9 : AH, z9 = va_up h a_35 (some (.inl (0, N_36, .inl (upd g_37 (x1).toNatClampNeg x2)))) := ⟨_, rfl⟩
      replace hw := hw h_40 eh_40
      refine v_iast dX0_year_52 e_38 hi_39 ?_
      rw [← eh_40]
      refine v_iload_n (q := 0) dX0_year_53 rfl rfl ?_
      exact v_iret dX0_year_54 rfl ⟨_, rfl, hw⟩
    · have hw := hw_10 c_8
      refine v_aload_n (q := 0) dX0_year_26 rfl rfl ?_
      refine v_bipush dX0_year_27 bp_m3 ?_
      obtain ⟨fs_43, e_44, hw⟩ := hw
      refine v_callV q396 q398 qs0 q104 q399 (ci := 0) rfl e_44 n_X0_refuse ⟨Nat.le_of_ble_eq_true rfl, Nat.le_of_ble_eq_true rfl⟩ [.int (-3)] [] (met_X0_refuse hw) rfl (Nat.zero_le _) ⟨Nat.le_refl _, Nat.le_refl _⟩ dX0_year_29 rfl (v_ki (fun z_41 h_42 hv => ?_))
      clear hw
      have hw := hv
      clear hv
      exact v_iret dX0_year_32 rfl ⟨_, rfl, hw⟩
  · have hw := hw_5 c_3
    refine v_aload_n (q := 0) dX0_year_12 rfl rfl ?_
    refine v_bipush dX0_year_13 bp_m2 ?_
    obtain ⟨fs_47, e_48, hw⟩ := hw
    refine v_callV q396 q398 qs0 q104 q399 (ci := 0) rfl e_48 n_X0_refuse ⟨Nat.le_of_ble_eq_true rfl, Nat.le_of_ble_eq_true rfl⟩ [.int (-2)] [] (met_X0_refuse hw) rfl (Nat.zero_le _) ⟨Nat.le_refl _, Nat.le_refl _⟩ dX0_year_15 rfl (v_ki (fun z_45 h_46 hv => ?_))
    clear hw
    have hw := hv
    clear hv
    exact v_iret dX0_year_18 rfl ⟨_, rfl, hw⟩
theorem met_X0_year {post : (Int32) → (AH) → Prop}   {b0 : Nat} {x1 : Int32} {x2 : Int32} {h : AH}  (hw : w_X0_year post  b0 x1 x2 h) : Mt l E yX0_year (ws_ yX0_year cX0_year 4 (some .int)) r_X0_year [va_rf (some b0), .int x1, .int x2] h (vpi (fun (r : Int32) (h' : AH) => post r h')) := v_entry (by decide +kernel) (Nat.le_of_ble_eq_true rfl) rfl (fun _ => e_X0_year hw)
/-! X22_init -/
abbrev r_X22_init : Room := { frames := 1, cells := 0, slots := 0, locals := 20 }
theorem n_X22_init : vdn yX22_init 4 := ⟨by decide +kernel, by decide +kernel, by decide +kernel⟩
def w_X22_init (post : (AH) → Prop) (b0 : Nat) (x1 : Option Nat) (x2 : Option Nat) (x3 : Int32) (x4 : Int32) (h : AH) : Prop :=
 (∃ fs_1 : List Value, h b0 = some (.inr (22, fs_1)) ∧ 0 < fs_1.length ∧ ∀ h_4 : AH, h_4 = va_up h b0 (some (.inr (22, fs_1.set 0 (va_rf x1)))) → (∃ fs_5 : List Value, h_4 b0 = some (.inr (22, fs_5)) ∧ 1 < fs_5.length ∧ ∀ h_8 : AH, h_8 = va_up h_4 b0 (some (.inr (22, fs_5.set 1 (va_rf x2)))) → (∃ fs_9 : List Value, h_8 b0 = some (.inr (22, fs_9)) ∧ 2 < fs_9.length ∧ ∀ h_12 : AH, h_12 = va_up h_8 b0 (some (.inr (22, fs_9.set 2 (.int x3)))) → (∃ fs_13 : List Value, h_12 b0 = some (.inr (22, fs_13)) ∧ 3 < fs_13.length ∧ ∀ h_16 : AH, h_16 = va_up h_12 b0 (some (.inr (22, fs_13.set 3 (.int x4)))) → (post h_16)))))
theorem e_X22_init {post : (AH) → Prop}   {b0 : Nat} {x1 : Option Nat} {x2 : Option Nat} {x3 : Int32} {x4 : Int32} {h : AH}  (hw : w_X22_init post  b0 x1 x2 x3 x4 h) : VV l E X cX22_init RX22 "<init>" 5 r_X22_init none (vpv (fun (h' : AH) => post h')) h 0 0 0 [(0, va_rf (some b0)), (1, va_rf x1), (2, va_rf x2), (3, .int x3), (4, .int x4)] [] := by
  refine v_aload_n (q := 0) dX22_init_0 rfl rfl ?_
  refine v_objInit q1214 q154 q155 (Nat.zero_le _) (Nat.le_of_ble_eq_true rfl) (Nat.le_of_ble_eq_true rfl) dX22_init_1 ?_
  refine v_aload_n (q := 0) dX22_init_4 rfl rfl ?_
  refine v_aload_n (q := 1) dX22_init_5 rfl rfl ?_
  obtain ⟨fs_1, e_2, e_3, hw⟩ := hw
  obtain ⟨h_4, eh_4⟩ : ∃ z9 : AH, z9 = va_up h b0 (some (.inr (22, fs_1.set 0 (va_rf x1)))) := ⟨_, rfl⟩
  replace hw := hw h_4 eh_4
  refine v_putF in_X22 (ci := 22) rfl 0 (Nat.le_of_ble_eq_true rfl) tyX22 tyX22_ok nmX22 q1215 rfl rfl rfl rfl rfl (v_rfn _ _).1 (v_rfn _ _).2 dX22_init_6 e_2 e_3 ?_
  rw [← eh_4]
  refine v_aload_n (q := 0) dX22_init_9 rfl rfl ?_
  refine v_aload_n (q := 2) dX22_init_10 rfl rfl ?_
  obtain ⟨fs_5, e_6, e_7, hw⟩ := hw
  obtain ⟨h_8, eh_8⟩ : ∃ z9 : AH, z9 = va_up h_4 b0 (some (.inr (22, fs_5.set 1 (va_rf x2)))) := ⟨_, rfl⟩
  replace hw := hw h_8 eh_8
  refine v_putF in_X22 (ci := 22) rfl 1 (Nat.le_of_ble_eq_true rfl) tyX22 tyX22_ok nmX22 q1217 rfl rfl rfl rfl rfl (v_rfn _ _).1 (v_rfn _ _).2 dX22_init_11 e_6 e_7 ?_
  rw [← eh_8]
  refine v_aload_n (q := 0) dX22_init_14 rfl rfl ?_
  refine v_iload_n (q := 3) dX22_init_15 rfl rfl ?_
  obtain ⟨fs_9, e_10, e_11, hw⟩ := hw
  obtain ⟨h_12, eh_12⟩ : ∃ z9 : AH, z9 = va_up h_8 b0 (some (.inr (22, fs_9.set 2 (.int x3)))) := ⟨_, rfl⟩
  replace hw := hw h_12 eh_12
  refine v_putF in_X22 (ci := 22) rfl 2 (Nat.le_of_ble_eq_true rfl) tyX22 tyX22_ok nmX22 q1219 rfl rfl rfl rfl rfl rfl rfl dX22_init_16 e_10 e_11 ?_
  rw [← eh_12]
  refine v_aload_n (q := 0) dX22_init_19 rfl rfl ?_
  refine v_iload (q := 4) dX22_init_20 rfl ?_
  obtain ⟨fs_13, e_14, e_15, hw⟩ := hw
  obtain ⟨h_16, eh_16⟩ : ∃ z9 : AH, z9 = va_up h_12 b0 (some (.inr (22, fs_13.set 3 (.int x4)))) := ⟨_, rfl⟩
  replace hw := hw h_16 eh_16
  refine v_putF in_X22 (ci := 22) rfl 3 (Nat.le_of_ble_eq_true rfl) tyX22 tyX22_ok nmX22 q1221 rfl rfl rfl rfl rfl rfl rfl dX22_init_22 e_14 e_15 ?_
  rw [← eh_16]
  exact v_vret dX22_init_25 rfl ⟨rfl, hw⟩
theorem met_X22_init {post : (AH) → Prop}   {b0 : Nat} {x1 : Option Nat} {x2 : Option Nat} {x3 : Int32} {x4 : Int32} {h : AH}  (hw : w_X22_init post  b0 x1 x2 x3 x4 h) : Mt l E yX22_init (ws_ yX22_init cX22_init 5 none) r_X22_init [va_rf (some b0), va_rf x1, va_rf x2, .int x3, .int x4] h (vpv (fun (h' : AH) => post h')) := v_entry (by decide +kernel) (by cases x1 <;> cases x2 <;> exact (Nat.le_of_ble_eq_true rfl)) (by cases x1 <;> cases x2 <;> exact rfl) (fun _ => e_X22_init hw)
/-! X0_version -/
abbrev r_X0_version : Room := { frames := 8, cells := 6, slots := 100, locals := 228 }
theorem n_X0_version : vdn yX0_version 4 := ⟨by decide +kernel, by decide +kernel, by decide +kernel⟩
def w_X0_version_30 (post : (Int32) → (AH) → Prop) (b0 : Nat) (x1 : Int64) (x3 : Int64) (x5 : Int32) (x6 : Int32) (h : AH) (k : Nat) (n : Nat) : Prop :=
 (∃ fs_3 : List Value, h b0 = some (.inr (0, fs_3)) ∧ (w_X0_refuse (fun (z_1 : Int32) (h_2 : AH) => (post z_1 h_2)) b0 (-3) h))
def w_X0_version (post : (Int32) → (AH) → Prop) (b0 : Nat) (x1 : Int64) (x3 : Int64) (x5 : Int32) (x6 : Int32) (h : AH) : Prop :=
 (w_X0_isDay (fun (z_5 : Int32) => ((z_5 = 0 → (w_X0_version_30 post b0 x1 x3 x5 x6 h 0 0)) ∧ (¬ z_5 = 0 → (w_X0_isTale (fun (z_10 : Int32) => ((z_10 = 0 → (w_X0_version_30 post b0 x1 x3 x5 x6 h 0 0)) ∧ (¬ z_10 = 0 → (w_X0_hasWords (fun (z_15 : Int32) => ((z_15 = 0 → (w_X0_version_30 post b0 x1 x3 x5 x6 h 0 0)) ∧ (¬ z_15 = 0 → (w_X0_hasWords (fun (z_20 : Int32) => ((¬ z_20 = 0 → (∃ (fs_25 : List Value) (r_28 : Option Nat), h b0 = some (.inr (0, fs_25)) ∧ fs_25[1]? = some (va_rf r_28) ∧ (∃ a_29 : Nat, r_28 = some a_29 ∧ (∃ (fs_30 : List Value) (r_33 : Option Nat), h a_29 = some (.inr (1, fs_30)) ∧ fs_30[6]? = some (va_rf r_33) ∧ (∃ a_34 : Nat, r_33 = some a_34 ∧ (∃ fs_89 : List Value, h a_34 = some (.inr (2, fs_89)) ∧ (w_J2_size (fun (z_35 : Int32) => ((¬ z_35 = (nI 20) → (∃ (fs_40 : List Value) (r_43 : Option Nat), h b0 = some (.inr (0, fs_40)) ∧ fs_40[1]? = some (va_rf r_43) ∧ (∃ a_44 : Nat, r_43 = some a_44 ∧ (∃ (fs_45 : List Value) (r_48 : Option Nat), h a_44 = some (.inr (1, fs_45)) ∧ fs_45[6]? = some (va_rf r_48) ∧ (0 + 1 ≤ 6 ∧ 0 + 4 ≤ 100 ∧ ∀ a_49 : Nat, h a_49 = none → ∀ h_51 : AH, h_51 = va_up h a_49 (some (.inr (22, dfX22))) → ((0 + 1) + 2 ≤ 6 ∧ (0 + 4) + 10 ≤ 100 ∧ (w_X8_of (fun (r_56 : Option Nat) (h_57 : AH) => (((0 + 1) + 2) + 2 ≤ 6 ∧ ((0 + 4) + 10) + 10 ≤ 100 ∧ (w_X8_of (fun (r_58 : Option Nat) (h_59 : AH) => (w_X22_init (fun (h_60 : AH) => (∃ a_61 : Nat, r_48 = some a_61 ∧ (∃ fs_79 : List Value, h_60 a_61 = some (.inr (2, fs_79)) ∧ ((((0 + 1) + 2) + 2) + 1 ≤ 6 ∧ (((0 + 4) + 10) + 10) + 63 ≤ 100 ∧ (w_J2_add (fun (z_62 : Int32) (h_63 : AH) => (∃ (fs_64 : List Value) (r_67 : Option Nat), h_63 b0 = some (.inr (0, fs_64)) ∧ fs_64[1]? = some (va_rf r_67) ∧ (∃ a_68 : Nat, r_67 = some a_68 ∧ (∃ (fs_69 : List Value) (r_72 : Option Nat), h_63 a_68 = some (.inr (1, fs_69)) ∧ fs_69[6]? = some (va_rf r_72) ∧ (∃ a_73 : Nat, r_72 = some a_73 ∧ (∃ fs_75 : List Value, h_63 a_73 = some (.inr (2, fs_75)) ∧ (w_J2_size (fun (z_74 : Int32) => (post (z_74 - (nI 1)) h_63)) a_73 h_63))))))) a_61 (some a_49) h_60))))) a_49 r_56 r_58 x5 x6 h_59)) x3 h_57))) x1 h_51))))))) ∧ (z_35 = (nI 20) → (∃ fs_87 : List Value, h b0 = some (.inr (0, fs_87)) ∧ (w_X0_refuse (fun (z_85 : Int32) (h_86 : AH) => (post z_85 h_86)) b0 (-4) h))))) a_34 h))))))) ∧ (z_20 = 0 → (w_X0_version_30 post b0 x1 x3 x5 x6 h 0 0)))) x3)))) x1)))) x6)))) x5)
theorem b_X0_version_30 {post : (Int32) → (AH) → Prop}   {b0 : Nat} {x1 : Int64} {x3 : Int64} {x5 : Int32} {x6 : Int32}    (h : AH) (k : Nat) (n : Nat) (hw : w_X0_version_30 post b0 x1 x3 x5 x6 h k n) : VV l E X cX0_version RX0 "version" 7 r_X0_version (some .int) (vpi (fun (r : Int32) (h' : AH) => post r h')) h k n 30 [(0, va_rf (some b0)), (1, .long x1), (3, .long x3), (5, .int x5), (6, .int x6)] [] := by
  refine v_aload_n (q := 0) dX0_version_30 rfl rfl ?_
  refine v_bipush dX0_version_31 bp_m3 ?_
  obtain ⟨fs_3, e_4, hw⟩ := hw
  refine v_callV0 q396 q398 qs0 q104 q399 (ci := 0) rfl e_4 n_X0_refuse ⟨Nat.le_of_ble_eq_true rfl, Nat.le_of_ble_eq_true rfl⟩ [.int (-3)] [] (met_X0_refuse hw) rfl (Nat.zero_le _) rfl rfl dX0_version_33 rfl (v_ki (fun z_1 h_2 hv => ?_))
  clear hw
  have hw := hv
  clear hv
  exact v_iret dX0_version_36 rfl ⟨_, rfl, hw⟩
theorem e_X0_version {post : (Int32) → (AH) → Prop}   {b0 : Nat} {x1 : Int64} {x3 : Int64} {x5 : Int32} {x6 : Int32} {h : AH}  (hw : w_X0_version post  b0 x1 x3 x5 x6 h) : VV l E X cX0_version RX0 "version" 7 r_X0_version (some .int) (vpi (fun (r : Int32) (h' : AH) => post r h')) h 0 0 0 [(0, va_rf (some b0)), (1, .long x1), (3, .long x3), (5, .int x5), (6, .int x6)] [] := by
  refine v_iload (q := 3) dX0_version_0 rfl ?_
  refine v_callS0 q408 q409 q104 q410 n_X0_isDay ⟨Nat.le_of_ble_eq_true rfl, Nat.le_of_ble_eq_true rfl⟩ [.int x5] [] (met_X0_isDay hw) rfl (Nat.zero_le _) rfl rfl dX0_version_2 rfl (v_ki (fun z_5 h1 hv => ?_))
  clear hw
  obtain ⟨e9, hw⟩ := hv
  refine v_heap e9 ?_
  clear e9
  obtain ⟨hw_8, hw_9⟩ := hw
  refine v_if_eq (tgt := 30) dX0_version_5 (by decide) (fun c_6 => ?_) (fun c_7 => ?_)
  · have hw := hw_8 c_6
    refine v_sub [0, 1, 2, 3, 4] rfl ?_
    exact b_X0_version_30 h 0 0 hw
  · have hw := hw_9 c_7
    refine v_iload (q := 4) dX0_version_8 rfl ?_
    refine v_callS0 q400 q401 q104 q402 n_X0_isTale ⟨Nat.le_of_ble_eq_true rfl, Nat.le_of_ble_eq_true rfl⟩ [.int x6] [] (met_X0_isTale hw) rfl (Nat.zero_le _) rfl rfl dX0_version_10 rfl (v_ki (fun z_10 h1 hv => ?_))
    clear hw
    obtain ⟨e9, hw⟩ := hv
    refine v_heap e9 ?_
    clear e9
    obtain ⟨hw_13, hw_14⟩ := hw
    refine v_if_eq (tgt := 30) dX0_version_13 (by decide) (fun c_11 => ?_) (fun c_12 => ?_)
    · have hw := hw_13 c_11
      refine v_sub [0, 1, 2, 3, 4] rfl ?_
      exact b_X0_version_30 h 0 0 hw
    · have hw := hw_14 c_12
      refine v_lload_n (q := 1) dX0_version_16 rfl rfl ?_
      refine v_callS0 q533 q534 q104 q535 n_X0_hasWords ⟨Nat.le_of_ble_eq_true rfl, Nat.le_of_ble_eq_true rfl⟩ [.long x1] [] (met_X0_hasWords hw) rfl (Nat.zero_le _) rfl rfl dX0_version_17 rfl (v_ki (fun z_15 h1 hv => ?_))
      clear hw
      obtain ⟨e9, hw⟩ := hv
      refine v_heap e9 ?_
      clear e9
      obtain ⟨hw_18, hw_19⟩ := hw
      refine v_if_eq (tgt := 30) dX0_version_20 (by decide) (fun c_16 => ?_) (fun c_17 => ?_)
      · have hw := hw_18 c_16
        refine v_sub [0, 1, 2, 3, 4] rfl ?_
        exact b_X0_version_30 h 0 0 hw
      · have hw := hw_19 c_17
        refine v_lload_n (q := 2) dX0_version_23 rfl rfl ?_
        refine v_callS0 q533 q534 q104 q535 n_X0_hasWords ⟨Nat.le_of_ble_eq_true rfl, Nat.le_of_ble_eq_true rfl⟩ [.long x3] [] (met_X0_hasWords hw) rfl (Nat.zero_le _) rfl rfl dX0_version_24 rfl (v_ki (fun z_20 h1 hv => ?_))
        clear hw
        obtain ⟨e9, hw⟩ := hv
        refine v_heap e9 ?_
        clear e9
        obtain ⟨hw_23, hw_24⟩ := hw
        refine v_if_ne (tgt := 37) dX0_version_27 (by decide) (fun c_21 => ?_) (fun c_22 => ?_)
        · have hw := hw_23 c_21
          refine v_aload_n (q := 0) dX0_version_37 rfl rfl ?_
          obtain ⟨fs_25, r_28, e_26, e_27, hw⟩ := hw
          refine v_get in_X0 (ci := 0) rfl 1 (Nat.le_of_ble_eq_true rfl) q319 rfl dX0_version_38 e_26 e_27 ?_
          obtain ⟨a_29, ea_29, hw⟩ := hw
          subst ea_29
          obtain ⟨fs_30, r_33, e_31, e_32, hw⟩ := hw
          refine v_getN in_X1 (ci := 1) rfl 6 (Nat.le_of_ble_eq_true rfl) q232 rfl dX0_version_41 e_31 e_32 ?_
          obtain ⟨a_34, ea_34, hw⟩ := hw
          subst ea_34
          obtain ⟨fs_89, e_90, hw⟩ := hw
          refine v_callV0 q413 q414 q415 q108 q416 (ci := 2) rfl e_90 n_J2_size ⟨Nat.le_of_ble_eq_true rfl, Nat.le_of_ble_eq_true rfl⟩ [] [] (met_J2_size hw) rfl (Nat.zero_le _) rfl rfl dX0_version_44 rfl (v_ki (fun z_35 h1 hv => ?_))
          clear hw
          obtain ⟨e9, hw⟩ := hv
          refine v_heap e9 ?_
          clear e9
          refine v_bipush dX0_version_47 bp_20 ?_
          obtain ⟨hw_38, hw_39⟩ := hw
          refine v_icmp_ne (tgt := 59) dX0_version_49 (by decide) (fun c_36 => ?_) (fun c_37 => ?_)
          · have hw := hw_38 c_36
            refine v_aload_n (q := 0) dX0_version_59 rfl rfl ?_
            obtain ⟨fs_40, r_43, e_41, e_42, hw⟩ := hw
            refine v_get in_X0 (ci := 0) rfl 1 (Nat.le_of_ble_eq_true rfl) q319 rfl dX0_version_60 e_41 e_42 ?_
            obtain ⟨a_44, ea_44, hw⟩ := hw
            subst ea_44
            obtain ⟨fs_45, r_48, e_46, e_47, hw⟩ := hw
            refine v_getN in_X1 (ci := 1) rfl 6 (Nat.le_of_ble_eq_true rfl) q232 rfl dX0_version_63 e_46 e_47 ?_
            obtain ⟨e_52, e_53, hw⟩ := hw
            refine v_new in_X22 (ci := 22) rfl tyX22 tyX22_ok q612 q1210 q138 dfX22_ok e_52 e_53 dX0_version_66 (fun a_49 e_50 => ?_)
            obtain ⟨h_51, eh_51⟩ : ∃ z9 : AH, z9 = va_up h a_49 (some (.inr (22, dfX22))) := ⟨_, rfl⟩
            replace hw := hw a_49 e_50 h_51 eh_51
            rw [← eh_51]
            refine v_dup dX0_version_69 (v_rf1 _) ?_
            refine v_lload_n (q := 1) dX0_version_70 rfl rfl ?_
            obtain ⟨e_83, e_84, hw⟩ := hw
            refine v_callS q536 q537 q119 q538 n_X8_of ⟨Nat.le_of_ble_eq_true rfl, Nat.le_of_ble_eq_true rfl⟩ [.long x1] [va_rf (some a_49), va_rf (some a_49), va_rf r_48] (met_X8_of hw) rfl (by simp only [List.map_cons, List.map_nil, List.sum_cons, List.sum_nil, v_rf1, v_cI, v_cJ]; decide) ⟨e_83, e_84⟩ dX0_version_71 rfl (v_kq (fun r_56 h_57 hv => ?_))
            clear hw
            have hw := hv
            clear hv
            refine v_lload_n (q := 2) dX0_version_74 rfl rfl ?_
            obtain ⟨e_81, e_82, hw⟩ := hw
            refine v_callS q536 q537 q119 q538 n_X8_of ⟨Nat.le_of_ble_eq_true rfl, Nat.le_of_ble_eq_true rfl⟩ [.long x3] [va_rf r_56, va_rf (some a_49), va_rf (some a_49), va_rf r_48] (met_X8_of hw) rfl (by simp only [List.map_cons, List.map_nil, List.sum_cons, List.sum_nil, v_rf1, v_cI, v_cJ]; decide) ⟨e_81, e_82⟩ dX0_version_75 rfl (v_kq (fun r_58 h_59 hv => ?_))
            clear hw
            have hw := hv
            clear hv
            refine v_iload (q := 3) dX0_version_78 rfl ?_
            refine v_iload (q := 4) dX0_version_80 rfl ?_
            refine v_callI0 q1211 q1212 q138 q1213 rfl n_X22_init ⟨Nat.le_of_ble_eq_true rfl, Nat.le_of_ble_eq_true rfl⟩ [va_rf r_56, va_rf r_58, .int x5, .int x6] [va_rf (some a_49), va_rf r_48] (met_X22_init hw) rfl (by simp only [List.map_cons, List.map_nil, List.sum_cons, List.sum_nil, v_rf1, v_cI, v_cJ]; decide) rfl rfl dX0_version_82 rfl (v_kv (fun h_60 hv => ?_))
            clear hw
            have hw := hv
            clear hv
            obtain ⟨a_61, ea_61, hw⟩ := hw
            subst ea_61
            obtain ⟨fs_79, e_80, hw⟩ := hw
            obtain ⟨e_77, e_78, hw⟩ := hw
            refine v_callV q445 q446 q447 q108 q448 (ci := 2) rfl e_80 n_J2_add ⟨Nat.le_of_ble_eq_true rfl, Nat.le_of_ble_eq_true rfl⟩ [va_rf (some a_49)] [] (met_J2_add hw) rfl (Nat.zero_le _) ⟨e_77, e_78⟩ dX0_version_85 rfl (v_ki (fun z_62 h_63 hv => ?_))
            clear hw
            have hw := hv
            clear hv
            refine v_pop dX0_version_88 rfl ?_
            refine v_aload_n (q := 0) dX0_version_89 rfl rfl ?_
            obtain ⟨fs_64, r_67, e_65, e_66, hw⟩ := hw
            refine v_get in_X0 (ci := 0) rfl 1 (Nat.le_of_ble_eq_true rfl) q319 rfl dX0_version_90 e_65 e_66 ?_
            obtain ⟨a_68, ea_68, hw⟩ := hw
            subst ea_68
            obtain ⟨fs_69, r_72, e_70, e_71, hw⟩ := hw
            refine v_getN in_X1 (ci := 1) rfl 6 (Nat.le_of_ble_eq_true rfl) q232 rfl dX0_version_93 e_70 e_71 ?_
            obtain ⟨a_73, ea_73, hw⟩ := hw
            subst ea_73
            obtain ⟨fs_75, e_76, hw⟩ := hw
            refine v_callV0 q413 q414 q415 q108 q416 (ci := 2) rfl e_76 n_J2_size ⟨Nat.le_of_ble_eq_true rfl, Nat.le_of_ble_eq_true rfl⟩ [] [] (met_J2_size hw) rfl (Nat.zero_le _) rfl rfl dX0_version_96 rfl (v_ki (fun z_74 h1 hv => ?_))
            clear hw
            obtain ⟨e9, hw⟩ := hv
            refine v_heap e9 ?_
            clear e9
            refine v_iconst dX0_version_99 ic_1 ?_
            refine v_isub dX0_version_100 ?_
            exact v_iret dX0_version_101 rfl ⟨_, rfl, hw⟩
          · have hw := hw_39 c_37
            refine v_aload_n (q := 0) dX0_version_52 rfl rfl ?_
            refine v_bipush dX0_version_53 bp_m4 ?_
            obtain ⟨fs_87, e_88, hw⟩ := hw
            refine v_callV0 q396 q398 qs0 q104 q399 (ci := 0) rfl e_88 n_X0_refuse ⟨Nat.le_of_ble_eq_true rfl, Nat.le_of_ble_eq_true rfl⟩ [.int (-4)] [] (met_X0_refuse hw) rfl (Nat.zero_le _) rfl rfl dX0_version_55 rfl (v_ki (fun z_85 h_86 hv => ?_))
            clear hw
            have hw := hv
            clear hv
            exact v_iret dX0_version_58 rfl ⟨_, rfl, hw⟩
        · have hw := hw_24 c_22
          refine v_sub [0, 1, 2, 3, 4] rfl ?_
          exact b_X0_version_30 h 0 0 hw
theorem met_X0_version {post : (Int32) → (AH) → Prop}   {b0 : Nat} {x1 : Int64} {x3 : Int64} {x5 : Int32} {x6 : Int32} {h : AH}  (hw : w_X0_version post  b0 x1 x3 x5 x6 h) : Mt l E yX0_version (ws_ yX0_version cX0_version 7 (some .int)) r_X0_version [va_rf (some b0), .long x1, .long x3, .int x5, .int x6] h (vpi (fun (r : Int32) (h' : AH) => post r h')) := v_entry (by decide +kernel) (Nat.le_of_ble_eq_true rfl) rfl (fun _ => e_X0_version hw)
/-! X0_isAnswer -/
abbrev r_X0_isAnswer : Room := { frames := 1, cells := 0, slots := 0, locals := 25 }
theorem n_X0_isAnswer : vdn yX0_isAnswer 5 := ⟨by decide +kernel, by decide +kernel, by decide +kernel⟩
def w_X0_isAnswer (post : (Int32) → Prop) (x0 : Int64) (x2 : Int64) (x4 : Int64) (x6 : Int64) (x8 : Int64) : Prop :=
 (w_X0_in (fun (z_1 : Int32) => ((z_1 = 0 → (post (nI 0))) ∧ (¬ z_1 = 0 → (w_X0_in (fun (z_6 : Int32) => ((z_6 = 0 → (post (nI 0))) ∧ (¬ z_6 = 0 → (w_X0_in (fun (z_11 : Int32) => ((z_11 = 0 → (post (nI 0))) ∧ (¬ z_11 = 0 → (w_X0_in (fun (z_16 : Int32) => ((z_16 = 0 → (post (nI 0))) ∧ (¬ z_16 = 0 → (w_X0_in (fun (z_21 : Int32) => ((z_21 = 0 → (post (nI 0))) ∧ (¬ z_21 = 0 → (post (nI 1))))) x8 (lN 0) (lN 2))))) x6 (lN 0) (lN 2))))) x4 (lN 0) (lN 9))))) x2 (lN 0) (lN 9999))))) x0 (lN 0) (lN 15))
theorem e_X0_isAnswer {post : (Int32) → Prop}   {x0 : Int64} {x2 : Int64} {x4 : Int64} {x6 : Int64} {x8 : Int64} {h : AH}  (hw : w_X0_isAnswer post  x0 x2 x4 x6 x8) : VV l E X cX0_isAnswer RX0 "isAnswer" 10 r_X0_isAnswer (some .boolean) (vpi (fun (r : Int32) (h' : AH) => h' = h ∧ post r)) h 0 0 0 [(0, .long x0), (2, .long x2), (4, .long x4), (6, .long x6), (8, .long x8)] [] := by
  refine v_lload_n (q := 0) dX0_isAnswer_0 rfl rfl ?_
  refine v_lconst (v := lN 0) dX0_isAnswer_1 rfl ?_
  refine v_ldc2 (v := (lN 15)) dX0_isAnswer_2 q407 ?_
  refine v_callS q393 q394 q104 q395 n_X0_in ⟨Nat.le_of_ble_eq_true rfl, Nat.le_of_ble_eq_true rfl⟩ [.long x0, .long (lN 0), .long (lN 15)] [] (met_X0_in hw) rfl (Nat.zero_le _) ⟨Nat.le_refl _, Nat.le_refl _⟩ dX0_isAnswer_5 rfl (v_ki (fun z_1 h1 hv => ?_))
  clear hw
  obtain ⟨e9, hw⟩ := hv
  refine v_heap e9 ?_
  clear e9
  obtain ⟨hw_4, hw_5⟩ := hw
  refine v_if_eq (tgt := 62) dX0_isAnswer_8 (by decide) (fun c_2 => ?_) (fun c_3 => ?_)
  · have hw := hw_4 c_2
    refine v_iconst dX0_isAnswer_62 ic_0 ?_
    exact v_zret dX0_isAnswer_63 rfl rfl ⟨_, rfl, rfl, hw⟩
  · have hw := hw_5 c_3
    refine v_lload_n (q := 1) dX0_isAnswer_11 rfl rfl ?_
    refine v_lconst (v := lN 0) dX0_isAnswer_12 rfl ?_
    refine v_ldc2 (v := (lN 9999)) dX0_isAnswer_13 q411 ?_
    refine v_callS q393 q394 q104 q395 n_X0_in ⟨Nat.le_of_ble_eq_true rfl, Nat.le_of_ble_eq_true rfl⟩ [.long x2, .long (lN 0), .long (lN 9999)] [] (met_X0_in hw) rfl (Nat.zero_le _) ⟨Nat.le_refl _, Nat.le_refl _⟩ dX0_isAnswer_16 rfl (v_ki (fun z_6 h1 hv => ?_))
    clear hw
    obtain ⟨e9, hw⟩ := hv
    refine v_heap e9 ?_
    clear e9
    obtain ⟨hw_9, hw_10⟩ := hw
    refine v_if_eq (tgt := 62) dX0_isAnswer_19 (by decide) (fun c_7 => ?_) (fun c_8 => ?_)
    · have hw := hw_9 c_7
      refine v_iconst dX0_isAnswer_62 ic_0 ?_
      exact v_zret dX0_isAnswer_63 rfl rfl ⟨_, rfl, rfl, hw⟩
    · have hw := hw_10 c_8
      refine v_lload (q := 2) dX0_isAnswer_22 rfl ?_
      refine v_lconst (v := lN 0) dX0_isAnswer_24 rfl ?_
      refine v_ldc2 (v := (lN 9)) dX0_isAnswer_25 q403 ?_
      refine v_callS q393 q394 q104 q395 n_X0_in ⟨Nat.le_of_ble_eq_true rfl, Nat.le_of_ble_eq_true rfl⟩ [.long x4, .long (lN 0), .long (lN 9)] [] (met_X0_in hw) rfl (Nat.zero_le _) ⟨Nat.le_refl _, Nat.le_refl _⟩ dX0_isAnswer_28 rfl (v_ki (fun z_11 h1 hv => ?_))
      clear hw
      obtain ⟨e9, hw⟩ := hv
      refine v_heap e9 ?_
      clear e9
      obtain ⟨hw_14, hw_15⟩ := hw
      refine v_if_eq (tgt := 62) dX0_isAnswer_31 (by decide) (fun c_12 => ?_) (fun c_13 => ?_)
      · have hw := hw_14 c_12
        refine v_iconst dX0_isAnswer_62 ic_0 ?_
        exact v_zret dX0_isAnswer_63 rfl rfl ⟨_, rfl, rfl, hw⟩
      · have hw := hw_15 c_13
        refine v_lload (q := 3) dX0_isAnswer_34 rfl ?_
        refine v_lconst (v := lN 0) dX0_isAnswer_36 rfl ?_
        refine v_ldc2 (v := (lN 2)) dX0_isAnswer_37 q524 ?_
        refine v_callS q393 q394 q104 q395 n_X0_in ⟨Nat.le_of_ble_eq_true rfl, Nat.le_of_ble_eq_true rfl⟩ [.long x6, .long (lN 0), .long (lN 2)] [] (met_X0_in hw) rfl (Nat.zero_le _) ⟨Nat.le_refl _, Nat.le_refl _⟩ dX0_isAnswer_40 rfl (v_ki (fun z_16 h1 hv => ?_))
        clear hw
        obtain ⟨e9, hw⟩ := hv
        refine v_heap e9 ?_
        clear e9
        obtain ⟨hw_19, hw_20⟩ := hw
        refine v_if_eq (tgt := 62) dX0_isAnswer_43 (by decide) (fun c_17 => ?_) (fun c_18 => ?_)
        · have hw := hw_19 c_17
          refine v_iconst dX0_isAnswer_62 ic_0 ?_
          exact v_zret dX0_isAnswer_63 rfl rfl ⟨_, rfl, rfl, hw⟩
        · have hw := hw_20 c_18
          refine v_lload (q := 4) dX0_isAnswer_46 rfl ?_
          refine v_lconst (v := lN 0) dX0_isAnswer_48 rfl ?_
          refine v_ldc2 (v := (lN 2)) dX0_isAnswer_49 q524 ?_
          refine v_callS q393 q394 q104 q395 n_X0_in ⟨Nat.le_of_ble_eq_true rfl, Nat.le_of_ble_eq_true rfl⟩ [.long x8, .long (lN 0), .long (lN 2)] [] (met_X0_in hw) rfl (Nat.zero_le _) ⟨Nat.le_refl _, Nat.le_refl _⟩ dX0_isAnswer_52 rfl (v_ki (fun z_21 h1 hv => ?_))
          clear hw
          obtain ⟨e9, hw⟩ := hv
          refine v_heap e9 ?_
          clear e9
          obtain ⟨hw_24, hw_25⟩ := hw
          refine v_if_eq (tgt := 62) dX0_isAnswer_55 (by decide) (fun c_22 => ?_) (fun c_23 => ?_)
          · have hw := hw_24 c_22
            refine v_iconst dX0_isAnswer_62 ic_0 ?_
            exact v_zret dX0_isAnswer_63 rfl rfl ⟨_, rfl, rfl, hw⟩
          · have hw := hw_25 c_23
            refine v_iconst dX0_isAnswer_58 ic_1 ?_
            refine v_goto (tgt := 63) dX0_isAnswer_59 (by decide) ?_
            exact v_zret dX0_isAnswer_63 rfl rfl ⟨_, rfl, rfl, hw⟩
theorem met_X0_isAnswer {post : (Int32) → Prop}   {x0 : Int64} {x2 : Int64} {x4 : Int64} {x6 : Int64} {x8 : Int64} {h : AH}  (hw : w_X0_isAnswer post  x0 x2 x4 x6 x8) : Mt l E yX0_isAnswer (ws_ yX0_isAnswer cX0_isAnswer 10 (some .boolean)) r_X0_isAnswer [.long x0, .long x2, .long x4, .long x6, .long x8] h (vpi (fun (r : Int32) (h' : AH) => h' = h ∧ post r)) := v_entry (by decide +kernel) (Nat.le_of_ble_eq_true rfl) rfl (fun _ => e_X0_isAnswer hw)
/-! X23_init -/
abbrev r_X23_init : Room := { frames := 1, cells := 0, slots := 0, locals := 20 }
theorem n_X23_init : vdn yX23_init 6 := ⟨by decide +kernel, by decide +kernel, by decide +kernel⟩
def w_X23_init (post : (AH) → Prop) (b0 : Nat) (x1 : Int32) (x2 : Int32) (x3 : Int32) (x4 : Int32) (x5 : Int32) (x6 : Option Nat) (h : AH) : Prop :=
 (∃ fs_1 : List Value, h b0 = some (.inr (23, fs_1)) ∧ 0 < fs_1.length ∧ ∀ h_4 : AH, h_4 = va_up h b0 (some (.inr (23, fs_1.set 0 (.int x1)))) → (∃ fs_5 : List Value, h_4 b0 = some (.inr (23, fs_5)) ∧ 1 < fs_5.length ∧ ∀ h_8 : AH, h_8 = va_up h_4 b0 (some (.inr (23, fs_5.set 1 (.int x2)))) → (∃ fs_9 : List Value, h_8 b0 = some (.inr (23, fs_9)) ∧ 2 < fs_9.length ∧ ∀ h_12 : AH, h_12 = va_up h_8 b0 (some (.inr (23, fs_9.set 2 (.int x3)))) → (∃ fs_13 : List Value, h_12 b0 = some (.inr (23, fs_13)) ∧ 3 < fs_13.length ∧ ∀ h_16 : AH, h_16 = va_up h_12 b0 (some (.inr (23, fs_13.set 3 (.int x4)))) → (∃ fs_17 : List Value, h_16 b0 = some (.inr (23, fs_17)) ∧ 4 < fs_17.length ∧ ∀ h_20 : AH, h_20 = va_up h_16 b0 (some (.inr (23, fs_17.set 4 (.int x5)))) → (∃ fs_21 : List Value, h_20 b0 = some (.inr (23, fs_21)) ∧ 5 < fs_21.length ∧ ∀ h_24 : AH, h_24 = va_up h_20 b0 (some (.inr (23, fs_21.set 5 (va_rf x6)))) → (post h_24)))))))
theorem e_X23_init {post : (AH) → Prop}   {b0 : Nat} {x1 : Int32} {x2 : Int32} {x3 : Int32} {x4 : Int32} {x5 : Int32} {x6 : Option Nat} {h : AH}  (hw : w_X23_init post  b0 x1 x2 x3 x4 x5 x6 h) : VV l E X cX23_init RX23 "<init>" 7 r_X23_init none (vpv (fun (h' : AH) => post h')) h 0 0 0 [(0, va_rf (some b0)), (1, .int x1), (2, .int x2), (3, .int x3), (4, .int x4), (5, .int x5), (6, va_rf x6)] [] := by
  refine v_aload_n (q := 0) dX23_init_0 rfl rfl ?_
  refine v_objInit q1249 q154 q155 (Nat.zero_le _) (Nat.le_of_ble_eq_true rfl) (Nat.le_of_ble_eq_true rfl) dX23_init_1 ?_
  refine v_aload_n (q := 0) dX23_init_4 rfl rfl ?_
  refine v_iload_n (q := 1) dX23_init_5 rfl rfl ?_
  obtain ⟨fs_1, e_2, e_3, hw⟩ := hw
  obtain ⟨h_4, eh_4⟩ : ∃ z9 : AH, z9 = va_up h b0 (some (.inr (23, fs_1.set 0 (.int x1)))) := ⟨_, rfl⟩
  replace hw := hw h_4 eh_4
  refine v_putF in_X23 (ci := 23) rfl 0 (Nat.le_of_ble_eq_true rfl) tyX23 tyX23_ok nmX23 q1250 rfl rfl rfl rfl rfl rfl rfl dX23_init_6 e_2 e_3 ?_
  rw [← eh_4]
  refine v_aload_n (q := 0) dX23_init_9 rfl rfl ?_
  refine v_iload_n (q := 2) dX23_init_10 rfl rfl ?_
  obtain ⟨fs_5, e_6, e_7, hw⟩ := hw
  obtain ⟨h_8, eh_8⟩ : ∃ z9 : AH, z9 = va_up h_4 b0 (some (.inr (23, fs_5.set 1 (.int x2)))) := ⟨_, rfl⟩
  replace hw := hw h_8 eh_8
  refine v_putF in_X23 (ci := 23) rfl 1 (Nat.le_of_ble_eq_true rfl) tyX23 tyX23_ok nmX23 q1252 rfl rfl rfl rfl rfl rfl rfl dX23_init_11 e_6 e_7 ?_
  rw [← eh_8]
  refine v_aload_n (q := 0) dX23_init_14 rfl rfl ?_
  refine v_iload_n (q := 3) dX23_init_15 rfl rfl ?_
  obtain ⟨fs_9, e_10, e_11, hw⟩ := hw
  obtain ⟨h_12, eh_12⟩ : ∃ z9 : AH, z9 = va_up h_8 b0 (some (.inr (23, fs_9.set 2 (.int x3)))) := ⟨_, rfl⟩
  replace hw := hw h_12 eh_12
  refine v_putF in_X23 (ci := 23) rfl 2 (Nat.le_of_ble_eq_true rfl) tyX23 tyX23_ok nmX23 q1254 rfl rfl rfl rfl rfl rfl rfl dX23_init_16 e_10 e_11 ?_
  rw [← eh_12]
  refine v_aload_n (q := 0) dX23_init_19 rfl rfl ?_
  refine v_iload (q := 4) dX23_init_20 rfl ?_
  obtain ⟨fs_13, e_14, e_15, hw⟩ := hw
  obtain ⟨h_16, eh_16⟩ : ∃ z9 : AH, z9 = va_up h_12 b0 (some (.inr (23, fs_13.set 3 (.int x4)))) := ⟨_, rfl⟩
  replace hw := hw h_16 eh_16
  refine v_putF in_X23 (ci := 23) rfl 3 (Nat.le_of_ble_eq_true rfl) tyX23 tyX23_ok nmX23 q1256 rfl rfl rfl rfl rfl rfl rfl dX23_init_22 e_14 e_15 ?_
  rw [← eh_16]
  refine v_aload_n (q := 0) dX23_init_25 rfl rfl ?_
  refine v_iload (q := 5) dX23_init_26 rfl ?_
  obtain ⟨fs_17, e_18, e_19, hw⟩ := hw
  obtain ⟨h_20, eh_20⟩ : ∃ z9 : AH, z9 = va_up h_16 b0 (some (.inr (23, fs_17.set 4 (.int x5)))) := ⟨_, rfl⟩
  replace hw := hw h_20 eh_20
  refine v_putF in_X23 (ci := 23) rfl 4 (Nat.le_of_ble_eq_true rfl) tyX23 tyX23_ok nmX23 q1258 rfl rfl rfl rfl rfl rfl rfl dX23_init_28 e_18 e_19 ?_
  rw [← eh_20]
  refine v_aload_n (q := 0) dX23_init_31 rfl rfl ?_
  refine v_aload (q := 6) dX23_init_32 rfl ?_
  obtain ⟨fs_21, e_22, e_23, hw⟩ := hw
  obtain ⟨h_24, eh_24⟩ : ∃ z9 : AH, z9 = va_up h_20 b0 (some (.inr (23, fs_21.set 5 (va_rf x6)))) := ⟨_, rfl⟩
  replace hw := hw h_24 eh_24
  refine v_putF in_X23 (ci := 23) rfl 5 (Nat.le_of_ble_eq_true rfl) tyX23 tyX23_ok nmX23 q1260 rfl rfl rfl rfl rfl (v_rfn _ _).1 (v_rfn _ _).2 dX23_init_34 e_22 e_23 ?_
  rw [← eh_24]
  exact v_vret dX23_init_37 rfl ⟨rfl, hw⟩
theorem met_X23_init {post : (AH) → Prop}   {b0 : Nat} {x1 : Int32} {x2 : Int32} {x3 : Int32} {x4 : Int32} {x5 : Int32} {x6 : Option Nat} {h : AH}  (hw : w_X23_init post  b0 x1 x2 x3 x4 x5 x6 h) : Mt l E yX23_init (ws_ yX23_init cX23_init 7 none) r_X23_init [va_rf (some b0), .int x1, .int x2, .int x3, .int x4, .int x5, va_rf x6] h (vpv (fun (h' : AH) => post h')) := v_entry (by decide +kernel) (by cases x6 <;> exact (Nat.le_of_ble_eq_true rfl)) (by cases x6 <;> exact rfl) (fun _ => e_X23_init hw)
/-! X0_answer -/
abbrev r_X0_answer : Room := { frames := 8, cells := 5, slots := 90, locals := 228 }
theorem n_X0_answer : vdn yX0_answer 6 := ⟨by decide +kernel, by decide +kernel, by decide +kernel⟩
def w_X0_answer_33 (post : (Int32) → (AH) → Prop) (b0 : Nat) (x1 : Int32) (x2 : Int32) (x3 : Int32) (x4 : Int32) (x5 : Int32) (x6 : Int64) (h : AH) (k : Nat) (n : Nat) : Prop :=
 (∃ fs_3 : List Value, h b0 = some (.inr (0, fs_3)) ∧ (w_X0_refuse (fun (z_1 : Int32) (h_2 : AH) => (post z_1 h_2)) b0 (-3) h))
def w_X0_answer_96 (post : (Int32) → (AH) → Prop) (b0 : Nat) (x1 : Int32) (x2 : Int32) (x3 : Int32) (x4 : Int32) (x5 : Int32) (x6 : Int64) (s0 : Option Nat) (s6 : Option Nat) (s7 : Option Nat) (s8 : Option Nat) (h : AH) (k : Nat) (n : Nat) : Prop :=
 (∃ a_5 : Nat, s6 = some a_5 ∧ (w_X23_init (fun (h_6 : AH) => (∃ a_7 : Nat, s8 = some a_7 ∧ (∃ fs_25 : List Value, h_6 a_7 = some (.inr (2, fs_25)) ∧ (k + 1 ≤ 5 ∧ n + 63 ≤ 90 ∧ (w_J2_add (fun (z_8 : Int32) (h_9 : AH) => (∃ (fs_10 : List Value) (r_13 : Option Nat), h_9 b0 = some (.inr (0, fs_10)) ∧ fs_10[1]? = some (va_rf r_13) ∧ (∃ a_14 : Nat, r_13 = some a_14 ∧ (∃ (fs_15 : List Value) (r_18 : Option Nat), h_9 a_14 = some (.inr (1, fs_15)) ∧ fs_15[7]? = some (va_rf r_18) ∧ (∃ a_19 : Nat, r_18 = some a_19 ∧ (∃ fs_21 : List Value, h_9 a_19 = some (.inr (2, fs_21)) ∧ (w_J2_size (fun (z_20 : Int32) => (post (z_20 - (nI 1)) h_9)) a_19 h_9))))))) a_7 s7 h_6))))) a_5 x1 x2 x3 x4 x5 s0 h))
def w_X0_answer_40 (post : (Int32) → (AH) → Prop) (b0 : Nat) (x1 : Int32) (x2 : Int32) (x3 : Int32) (x4 : Int32) (x5 : Int32) (x6 : Int64) (h : AH) (k : Nat) (n : Nat) : Prop :=
 (∃ (fs_27 : List Value) (r_30 : Option Nat), h b0 = some (.inr (0, fs_27)) ∧ fs_27[1]? = some (va_rf r_30) ∧ (∃ a_31 : Nat, r_30 = some a_31 ∧ (∃ (fs_32 : List Value) (r_35 : Option Nat), h a_31 = some (.inr (1, fs_32)) ∧ fs_32[7]? = some (va_rf r_35) ∧ (∃ a_36 : Nat, r_35 = some a_36 ∧ (∃ fs_70 : List Value, h a_36 = some (.inr (2, fs_70)) ∧ (w_J2_size (fun (z_37 : Int32) => ((¬ z_37 = (nI 60) → (∃ (fs_42 : List Value) (r_45 : Option Nat), h b0 = some (.inr (0, fs_42)) ∧ fs_42[1]? = some (va_rf r_45) ∧ (∃ a_46 : Nat, r_45 = some a_46 ∧ (∃ (fs_47 : List Value) (r_50 : Option Nat), h a_46 = some (.inr (1, fs_47)) ∧ fs_47[7]? = some (va_rf r_50) ∧ (k + 1 ≤ 5 ∧ n + 6 ≤ 90 ∧ ∀ a_51 : Nat, h a_51 = none → ∀ h_53 : AH, h_53 = va_up h a_51 (some (.inr (23, dfX23))) → ((¬ (lg_cmp x6 (lN 0)) = 0 → ((k + 1) + 2 ≤ 5 ∧ (n + 6) + 10 ≤ 90 ∧ (w_X8_of (fun (r_62 : Option Nat) (h_63 : AH) => (w_X0_answer_96 post b0 x1 x2 x3 x4 x5 x6 r_62 (some a_51) (some a_51) r_50 h_63 ((k + 1) + 2) ((n + 6) + 10))) x6 h_53))) ∧ ((lg_cmp x6 (lN 0)) = 0 → (w_X0_answer_96 post b0 x1 x2 x3 x4 x5 x6 none (some a_51) (some a_51) r_50 h_53 (k + 1) (n + 6))))))))) ∧ (z_37 = (nI 60) → (∃ fs_68 : List Value, h b0 = some (.inr (0, fs_68)) ∧ (w_X0_refuse (fun (z_66 : Int32) (h_67 : AH) => (post z_66 h_67)) b0 (-4) h))))) a_36 h))))))
def w_X0_answer (post : (Int32) → (AH) → Prop) (b0 : Nat) (x1 : Int32) (x2 : Int32) (x3 : Int32) (x4 : Int32) (x5 : Int32) (x6 : Int64) (h : AH) : Prop :=
 (w_X0_isAnswer (fun (z_72 : Int32) => ((z_72 = 0 → (w_X0_answer_33 post b0 x1 x2 x3 x4 x5 x6 h 0 0)) ∧ (¬ z_72 = 0 → (((lg_cmp x6 (lN 0)) = 0 → (w_X0_answer_40 post b0 x1 x2 x3 x4 x5 x6 h 0 0)) ∧ (¬ (lg_cmp x6 (lN 0)) = 0 → (w_X0_hasWords (fun (z_81 : Int32) => ((¬ z_81 = 0 → (w_X0_answer_40 post b0 x1 x2 x3 x4 x5 x6 h 0 0)) ∧ (z_81 = 0 → (w_X0_answer_33 post b0 x1 x2 x3 x4 x5 x6 h 0 0)))) x6)))))) ((x1).toInt64) ((x2).toInt64) ((x3).toInt64) ((x4).toInt64) ((x5).toInt64))
theorem b_X0_answer_33 {post : (Int32) → (AH) → Prop}   {b0 : Nat} {x1 : Int32} {x2 : Int32} {x3 : Int32} {x4 : Int32} {x5 : Int32} {x6 : Int64}    (h : AH) (k : Nat) (n : Nat) (hw : w_X0_answer_33 post b0 x1 x2 x3 x4 x5 x6 h k n) : VV l E X cX0_answer RX0 "answer" 8 r_X0_answer (some .int) (vpi (fun (r : Int32) (h' : AH) => post r h')) h k n 33 [(0, va_rf (some b0)), (1, .int x1), (2, .int x2), (3, .int x3), (4, .int x4), (5, .int x5), (6, .long x6)] [] := by
  refine v_aload_n (q := 0) dX0_answer_33 rfl rfl ?_
  refine v_bipush dX0_answer_34 bp_m3 ?_
  obtain ⟨fs_3, e_4, hw⟩ := hw
  refine v_callV0 q396 q398 qs0 q104 q399 (ci := 0) rfl e_4 n_X0_refuse ⟨Nat.le_of_ble_eq_true rfl, Nat.le_of_ble_eq_true rfl⟩ [.int (-3)] [] (met_X0_refuse hw) rfl (Nat.zero_le _) rfl rfl dX0_answer_36 rfl (v_ki (fun z_1 h_2 hv => ?_))
  clear hw
  have hw := hv
  clear hv
  exact v_iret dX0_answer_39 rfl ⟨_, rfl, hw⟩
theorem b_X0_answer_96 {post : (Int32) → (AH) → Prop}   {b0 : Nat} {x1 : Int32} {x2 : Int32} {x3 : Int32} {x4 : Int32} {x5 : Int32} {x6 : Int64}    (s0 : Option Nat) (s6 : Option Nat) (s7 : Option Nat) (s8 : Option Nat) (h : AH) (k : Nat) (n : Nat) (hw : w_X0_answer_96 post b0 x1 x2 x3 x4 x5 x6 s0 s6 s7 s8 h k n) : VV l E X cX0_answer RX0 "answer" 8 r_X0_answer (some .int) (vpi (fun (r : Int32) (h' : AH) => post r h')) h k n 96 [(0, va_rf (some b0)), (1, .int x1), (2, .int x2), (3, .int x3), (4, .int x4), (5, .int x5), (6, .long x6)] [va_rf s0, .int x5, .int x4, .int x3, .int x2, .int x1, va_rf s6, va_rf s7, va_rf s8] := by
  obtain ⟨a_5, ea_5, hw⟩ := hw
  subst ea_5
  refine v_callI0 q1246 q1247 q139 q1248 rfl n_X23_init ⟨Nat.le_of_ble_eq_true rfl, Nat.le_of_ble_eq_true rfl⟩ [.int x1, .int x2, .int x3, .int x4, .int x5, va_rf s0] [va_rf s7, va_rf s8] (met_X23_init hw) rfl (by simp only [List.map_cons, List.map_nil, List.sum_cons, List.sum_nil, v_rf1, v_cI, v_cJ]; decide) rfl rfl dX0_answer_96 rfl (v_kv (fun h_6 hv => ?_))
  clear hw
  have hw := hv
  clear hv
  obtain ⟨a_7, ea_7, hw⟩ := hw
  subst ea_7
  obtain ⟨fs_25, e_26, hw⟩ := hw
  obtain ⟨e_23, e_24, hw⟩ := hw
  refine v_callV q445 q446 q447 q108 q448 (ci := 2) rfl e_26 n_J2_add ⟨Nat.le_of_ble_eq_true rfl, Nat.le_of_ble_eq_true rfl⟩ [va_rf s7] [] (met_J2_add hw) rfl (Nat.zero_le _) ⟨e_23, e_24⟩ dX0_answer_99 rfl (v_ki (fun z_8 h_9 hv => ?_))
  clear hw
  have hw := hv
  clear hv
  refine v_pop dX0_answer_102 rfl ?_
  refine v_aload_n (q := 0) dX0_answer_103 rfl rfl ?_
  obtain ⟨fs_10, r_13, e_11, e_12, hw⟩ := hw
  refine v_get in_X0 (ci := 0) rfl 1 (Nat.le_of_ble_eq_true rfl) q319 rfl dX0_answer_104 e_11 e_12 ?_
  obtain ⟨a_14, ea_14, hw⟩ := hw
  subst ea_14
  obtain ⟨fs_15, r_18, e_16, e_17, hw⟩ := hw
  refine v_getN in_X1 (ci := 1) rfl 7 (Nat.le_of_ble_eq_true rfl) q234 rfl dX0_answer_107 e_16 e_17 ?_
  obtain ⟨a_19, ea_19, hw⟩ := hw
  subst ea_19
  obtain ⟨fs_21, e_22, hw⟩ := hw
  refine v_callV0 q413 q414 q415 q108 q416 (ci := 2) rfl e_22 n_J2_size ⟨Nat.le_of_ble_eq_true rfl, Nat.le_of_ble_eq_true rfl⟩ [] [] (met_J2_size hw) rfl (Nat.zero_le _) rfl rfl dX0_answer_110 rfl (v_ki (fun z_20 h1 hv => ?_))
  clear hw
  obtain ⟨e9, hw⟩ := hv
  refine v_heap e9 ?_
  clear e9
  refine v_iconst dX0_answer_113 ic_1 ?_
  refine v_isub dX0_answer_114 ?_
  exact v_iret dX0_answer_115 rfl ⟨_, rfl, hw⟩
theorem b_X0_answer_40 {post : (Int32) → (AH) → Prop}   {b0 : Nat} {x1 : Int32} {x2 : Int32} {x3 : Int32} {x4 : Int32} {x5 : Int32} {x6 : Int64}    (h : AH) (k : Nat) (n : Nat) (hw : w_X0_answer_40 post b0 x1 x2 x3 x4 x5 x6 h k n) : VV l E X cX0_answer RX0 "answer" 8 r_X0_answer (some .int) (vpi (fun (r : Int32) (h' : AH) => post r h')) h k n 40 [(0, va_rf (some b0)), (1, .int x1), (2, .int x2), (3, .int x3), (4, .int x4), (5, .int x5), (6, .long x6)] [] := by
  refine v_aload_n (q := 0) dX0_answer_40 rfl rfl ?_
  obtain ⟨fs_27, r_30, e_28, e_29, hw⟩ := hw
  refine v_get in_X0 (ci := 0) rfl 1 (Nat.le_of_ble_eq_true rfl) q319 rfl dX0_answer_41 e_28 e_29 ?_
  obtain ⟨a_31, ea_31, hw⟩ := hw
  subst ea_31
  obtain ⟨fs_32, r_35, e_33, e_34, hw⟩ := hw
  refine v_getN in_X1 (ci := 1) rfl 7 (Nat.le_of_ble_eq_true rfl) q234 rfl dX0_answer_44 e_33 e_34 ?_
  obtain ⟨a_36, ea_36, hw⟩ := hw
  subst ea_36
  obtain ⟨fs_70, e_71, hw⟩ := hw
  refine v_callV0 q413 q414 q415 q108 q416 (ci := 2) rfl e_71 n_J2_size ⟨Nat.le_of_ble_eq_true rfl, Nat.le_of_ble_eq_true rfl⟩ [] [] (met_J2_size hw) rfl (Nat.zero_le _) rfl rfl dX0_answer_47 rfl (v_ki (fun z_37 h1 hv => ?_))
  clear hw
  obtain ⟨e9, hw⟩ := hv
  refine v_heap e9 ?_
  clear e9
  refine v_bipush dX0_answer_50 bp_60 ?_
  obtain ⟨hw_40, hw_41⟩ := hw
  refine v_icmp_ne (tgt := 62) dX0_answer_52 (by decide) (fun c_38 => ?_) (fun c_39 => ?_)
  · have hw := hw_40 c_38
    refine v_aload_n (q := 0) dX0_answer_62 rfl rfl ?_
    obtain ⟨fs_42, r_45, e_43, e_44, hw⟩ := hw
    refine v_get in_X0 (ci := 0) rfl 1 (Nat.le_of_ble_eq_true rfl) q319 rfl dX0_answer_63 e_43 e_44 ?_
    obtain ⟨a_46, ea_46, hw⟩ := hw
    subst ea_46
    obtain ⟨fs_47, r_50, e_48, e_49, hw⟩ := hw
    refine v_getN in_X1 (ci := 1) rfl 7 (Nat.le_of_ble_eq_true rfl) q234 rfl dX0_answer_66 e_48 e_49 ?_
    obtain ⟨e_54, e_55, hw⟩ := hw
    refine v_new in_X23 (ci := 23) rfl tyX23 tyX23_ok q1244 q1245 q139 dfX23_ok e_54 e_55 dX0_answer_69 (fun a_51 e_52 => ?_)
    obtain ⟨h_53, eh_53⟩ : ∃ z9 : AH, z9 = va_up h a_51 (some (.inr (23, dfX23))) := ⟨_, rfl⟩
    replace hw := hw a_51 e_52 h_53 eh_53
    rw [← eh_53]
    refine v_dup dX0_answer_72 (v_rf1 _) ?_
    refine v_iload_n (q := 1) dX0_answer_73 rfl rfl ?_
    refine v_iload_n (q := 2) dX0_answer_74 rfl rfl ?_
    refine v_iload_n (q := 3) dX0_answer_75 rfl rfl ?_
    refine v_iload (q := 4) dX0_answer_76 rfl ?_
    refine v_iload (q := 5) dX0_answer_78 rfl ?_
    refine v_lload (q := 6) dX0_answer_80 rfl ?_
    refine v_lconst (v := lN 0) dX0_answer_82 rfl ?_
    refine v_lcmp dX0_answer_83 ?_
    obtain ⟨hw_60, hw_61⟩ := hw
    refine v_if_ne (tgt := 91) dX0_answer_84 (by decide) (fun c_58 => ?_) (fun c_59 => ?_)
    · have hw := hw_60 c_58
      refine v_lload (q := 6) dX0_answer_91 rfl ?_
      obtain ⟨e_64, e_65, hw⟩ := hw
      refine v_callS q536 q537 q119 q538 n_X8_of ⟨Nat.le_of_ble_eq_true rfl, Nat.le_of_ble_eq_true rfl⟩ [.long x6] [.int x5, .int x4, .int x3, .int x2, .int x1, va_rf (some a_51), va_rf (some a_51), va_rf r_50] (met_X8_of hw) rfl (by simp only [List.map_cons, List.map_nil, List.sum_cons, List.sum_nil, v_rf1, v_cI, v_cJ]; decide) ⟨e_64, e_65⟩ dX0_answer_93 rfl (v_kq (fun r_62 h_63 hv => ?_))
      clear hw
      have hw := hv
      clear hv
      refine v_sub [0, 1, 2, 3, 4, 5, 6] rfl ?_
      exact b_X0_answer_96 r_62 (some a_51) (some a_51) r_50 h_63 ((k + 1) + 2) ((n + 6) + 10) hw
    · have hw := hw_61 c_59
      refine v_null dX0_answer_87 ?_
      refine v_goto (tgt := 96) dX0_answer_88 (by decide) ?_
      refine v_sub [0, 1, 2, 3, 4, 5, 6] rfl ?_
      exact b_X0_answer_96 none (some a_51) (some a_51) r_50 h_53 (k + 1) (n + 6) hw
  · have hw := hw_41 c_39
    refine v_aload_n (q := 0) dX0_answer_55 rfl rfl ?_
    refine v_bipush dX0_answer_56 bp_m4 ?_
    obtain ⟨fs_68, e_69, hw⟩ := hw
    refine v_callV0 q396 q398 qs0 q104 q399 (ci := 0) rfl e_69 n_X0_refuse ⟨Nat.le_of_ble_eq_true rfl, Nat.le_of_ble_eq_true rfl⟩ [.int (-4)] [] (met_X0_refuse hw) rfl (Nat.zero_le _) rfl rfl dX0_answer_58 rfl (v_ki (fun z_66 h_67 hv => ?_))
    clear hw
    have hw := hv
    clear hv
    exact v_iret dX0_answer_61 rfl ⟨_, rfl, hw⟩
theorem e_X0_answer {post : (Int32) → (AH) → Prop}   {b0 : Nat} {x1 : Int32} {x2 : Int32} {x3 : Int32} {x4 : Int32} {x5 : Int32} {x6 : Int64} {h : AH}  (hw : w_X0_answer post  b0 x1 x2 x3 x4 x5 x6 h) : VV l E X cX0_answer RX0 "answer" 8 r_X0_answer (some .int) (vpi (fun (r : Int32) (h' : AH) => post r h')) h 0 0 0 [(0, va_rf (some b0)), (1, .int x1), (2, .int x2), (3, .int x3), (4, .int x4), (5, .int x5), (6, .long x6)] [] := by
  refine v_iload_n (q := 1) dX0_answer_0 rfl rfl ?_
  refine v_i2l dX0_answer_1 ?_
  refine v_iload_n (q := 2) dX0_answer_2 rfl rfl ?_
  refine v_i2l dX0_answer_3 ?_
  refine v_iload_n (q := 3) dX0_answer_4 rfl rfl ?_
  refine v_i2l dX0_answer_5 ?_
  refine v_iload (q := 4) dX0_answer_6 rfl ?_
  refine v_i2l dX0_answer_8 ?_
  refine v_iload (q := 5) dX0_answer_9 rfl ?_
  refine v_i2l dX0_answer_11 ?_
  refine v_callS0 q1241 q1242 q104 q1243 n_X0_isAnswer ⟨Nat.le_of_ble_eq_true rfl, Nat.le_of_ble_eq_true rfl⟩ [.long ((x1).toInt64), .long ((x2).toInt64), .long ((x3).toInt64), .long ((x4).toInt64), .long ((x5).toInt64)] [] (met_X0_isAnswer hw) rfl (Nat.zero_le _) rfl rfl dX0_answer_12 rfl (v_ki (fun z_72 h1 hv => ?_))
  clear hw
  obtain ⟨e9, hw⟩ := hv
  refine v_heap e9 ?_
  clear e9
  obtain ⟨hw_75, hw_76⟩ := hw
  refine v_if_eq (tgt := 33) dX0_answer_15 (by decide) (fun c_73 => ?_) (fun c_74 => ?_)
  · have hw := hw_75 c_73
    refine v_sub [0, 1, 2, 3, 4, 5, 6] rfl ?_
    exact b_X0_answer_33 h 0 0 hw
  · have hw := hw_76 c_74
    refine v_lload (q := 6) dX0_answer_18 rfl ?_
    refine v_lconst (v := lN 0) dX0_answer_20 rfl ?_
    refine v_lcmp dX0_answer_21 ?_
    obtain ⟨hw_79, hw_80⟩ := hw
    refine v_if_eq (tgt := 40) dX0_answer_22 (by decide) (fun c_77 => ?_) (fun c_78 => ?_)
    · have hw := hw_79 c_77
      refine v_sub [0, 1, 2, 3, 4, 5, 6] rfl ?_
      exact b_X0_answer_40 h 0 0 hw
    · have hw := hw_80 c_78
      refine v_lload (q := 6) dX0_answer_25 rfl ?_
      refine v_callS0 q533 q534 q104 q535 n_X0_hasWords ⟨Nat.le_of_ble_eq_true rfl, Nat.le_of_ble_eq_true rfl⟩ [.long x6] [] (met_X0_hasWords hw) rfl (Nat.zero_le _) rfl rfl dX0_answer_27 rfl (v_ki (fun z_81 h1 hv => ?_))
      clear hw
      obtain ⟨e9, hw⟩ := hv
      refine v_heap e9 ?_
      clear e9
      obtain ⟨hw_84, hw_85⟩ := hw
      refine v_if_ne (tgt := 40) dX0_answer_30 (by decide) (fun c_82 => ?_) (fun c_83 => ?_)
      · have hw := hw_84 c_82
        refine v_sub [0, 1, 2, 3, 4, 5, 6] rfl ?_
        exact b_X0_answer_40 h 0 0 hw
      · have hw := hw_85 c_83
        refine v_sub [0, 1, 2, 3, 4, 5, 6] rfl ?_
        exact b_X0_answer_33 h 0 0 hw
theorem met_X0_answer {post : (Int32) → (AH) → Prop}   {b0 : Nat} {x1 : Int32} {x2 : Int32} {x3 : Int32} {x4 : Int32} {x5 : Int32} {x6 : Int64} {h : AH}  (hw : w_X0_answer post  b0 x1 x2 x3 x4 x5 x6 h) : Mt l E yX0_answer (ws_ yX0_answer cX0_answer 8 (some .int)) r_X0_answer [va_rf (some b0), .int x1, .int x2, .int x3, .int x4, .int x5, .long x6] h (vpi (fun (r : Int32) (h' : AH) => post r h')) := v_entry (by decide +kernel) (Nat.le_of_ble_eq_true rfl) rfl (fun _ => e_X0_answer hw)
/-! X0_isAnswerAt -/
abbrev r_X0_isAnswerAt : Room := { frames := 1, cells := 0, slots := 0, locals := 25 }
theorem n_X0_isAnswerAt : vdn yX0_isAnswerAt 1 := ⟨by decide +kernel, by decide +kernel, by decide +kernel⟩
def w_X0_isAnswerAt (post : (Int32) → Prop) (b0 : Nat) (x1 : Int32) (h : AH) : Prop :=
 (∃ (fs_1 : List Value) (r_4 : Option Nat), h b0 = some (.inr (0, fs_1)) ∧ fs_1[1]? = some (va_rf r_4) ∧ (∃ a_5 : Nat, r_4 = some a_5 ∧ (∃ (fs_6 : List Value) (r_9 : Option Nat), h a_5 = some (.inr (1, fs_6)) ∧ fs_6[7]? = some (va_rf r_9) ∧ (∃ a_10 : Nat, r_9 = some a_10 ∧ (∃ fs_14 : List Value, h a_10 = some (.inr (2, fs_14)) ∧ (w_J2_size (fun (z_11 : Int32) => (w_X0_in (fun (z_12 : Int32) => ((z_12 = nI 0 ∨ z_12 = nI 1) ∧ post z_12)) ((x1).toInt64) (lN 0) (((z_11 - (nI 1))).toInt64))) a_10 h))))))
theorem e_X0_isAnswerAt {post : (Int32) → Prop}   {b0 : Nat} {x1 : Int32} {h : AH}  (hw : w_X0_isAnswerAt post  b0 x1 h) : VV l E X cX0_isAnswerAt RX0 "isAnswerAt" 2 r_X0_isAnswerAt (some .boolean) (vpi (fun (r : Int32) (h' : AH) => h' = h ∧ post r)) h 0 0 0 [(0, va_rf (some b0)), (1, .int x1)] [] := by
  refine v_iload_n (q := 1) dX0_isAnswerAt_0 rfl rfl ?_
  refine v_i2l dX0_isAnswerAt_1 ?_
  refine v_lconst (v := lN 0) dX0_isAnswerAt_2 rfl ?_
  refine v_aload_n (q := 0) dX0_isAnswerAt_3 rfl rfl ?_
  obtain ⟨fs_1, r_4, e_2, e_3, hw⟩ := hw
  refine v_get in_X0 (ci := 0) rfl 1 (Nat.le_of_ble_eq_true rfl) q319 rfl dX0_isAnswerAt_4 e_2 e_3 ?_
  obtain ⟨a_5, ea_5, hw⟩ := hw
  subst ea_5
  obtain ⟨fs_6, r_9, e_7, e_8, hw⟩ := hw
  refine v_getN in_X1 (ci := 1) rfl 7 (Nat.le_of_ble_eq_true rfl) q234 rfl dX0_isAnswerAt_7 e_7 e_8 ?_
  obtain ⟨a_10, ea_10, hw⟩ := hw
  subst ea_10
  obtain ⟨fs_14, e_15, hw⟩ := hw
  refine v_callV q413 q414 q415 q108 q416 (ci := 2) rfl e_15 n_J2_size ⟨Nat.le_of_ble_eq_true rfl, Nat.le_of_ble_eq_true rfl⟩ [] [.long (lN 0), .long ((x1).toInt64)] (met_J2_size hw) rfl (Nat.le_of_ble_eq_true rfl) ⟨Nat.le_refl _, Nat.le_refl _⟩ dX0_isAnswerAt_10 rfl (v_ki (fun z_11 h1 hv => ?_))
  clear hw
  obtain ⟨e9, hw⟩ := hv
  refine v_heap e9 ?_
  clear e9
  refine v_iconst dX0_isAnswerAt_13 ic_1 ?_
  refine v_isub dX0_isAnswerAt_14 ?_
  refine v_i2l dX0_isAnswerAt_15 ?_
  refine v_callS q393 q394 q104 q395 n_X0_in ⟨Nat.le_of_ble_eq_true rfl, Nat.le_of_ble_eq_true rfl⟩ [.long ((x1).toInt64), .long (lN 0), .long (((z_11 - (nI 1))).toInt64)] [] (met_X0_in hw) rfl (Nat.zero_le _) ⟨Nat.le_refl _, Nat.le_refl _⟩ dX0_isAnswerAt_16 rfl (v_ki (fun z_12 h1 hv => ?_))
  clear hw
  obtain ⟨e9, hw⟩ := hv
  refine v_heap e9 ?_
  clear e9
  obtain ⟨hn_13, hw⟩ := hw
  exact v_zret dX0_isAnswerAt_19 rfl (v_z1 hn_13).1 ⟨_, rfl, rfl, hw⟩
theorem met_X0_isAnswerAt {post : (Int32) → Prop}   {b0 : Nat} {x1 : Int32} {h : AH}  (hw : w_X0_isAnswerAt post  b0 x1 h) : Mt l E yX0_isAnswerAt (ws_ yX0_isAnswerAt cX0_isAnswerAt 2 (some .boolean)) r_X0_isAnswerAt [va_rf (some b0), .int x1] h (vpi (fun (r : Int32) (h' : AH) => h' = h ∧ post r)) := v_entry (by decide +kernel) (Nat.le_of_ble_eq_true rfl) rfl (fun _ => e_X0_isAnswerAt hw)
/-! X0_isBack -/
abbrev r_X0_isBack : Room := { frames := 5, cells := 0, slots := 0, locals := 123 }
theorem n_X0_isBack : vdn yX0_isBack 1 := ⟨by decide +kernel, by decide +kernel, by decide +kernel⟩
def w_X0_isBack (post : (Int32) → (AH) → Prop) (b0 : Nat) (x1 : Option Nat) (h : AH) : Prop :=
 (∃ a_1 : Nat, x1 = some a_1 ∧ (∃ (fs_2 : List Value) (r_5 : Option Nat), h a_1 = some (.inr (23, fs_2)) ∧ fs_2[5]? = some (va_rf r_5) ∧ ((r_5 = none → (post (nI 0) h)) ∧ (∀ a_7 : Nat, r_5 = some a_7 → (∃ (fs_11 : List Value) (z_14 : Int32), h a_1 = some (.inr (23, fs_11)) ∧ fs_11[1]? = some (.int z_14) ∧ (∃ (fs_15 : List Value) (r_18 : Option Nat), h b0 = some (.inr (0, fs_15)) ∧ fs_15[1]? = some (va_rf r_18) ∧ (∃ a_19 : Nat, r_18 = some a_19 ∧ (∃ (fs_20 : List Value) (z_23 : Int32), h a_19 = some (.inr (1, fs_20)) ∧ fs_20[0]? = some (.int z_23) ∧ ((z_14 ≤ z_23 → (post (nI 0) h)) ∧ (¬ z_14 ≤ z_23 → (∃ (fs_28 : List Value) (r_31 : Option Nat), h a_1 = some (.inr (23, fs_28)) ∧ fs_28[5]? = some (va_rf r_31) ∧ (∃ fs_68 : List Value, h b0 = some (.inr (0, fs_68)) ∧ (w_X0_toPrint (fun (z_32 : Int32) (h_33 : AH) => (∃ (fs_34 : List Value) (r_37 : Option Nat), h_33 b0 = some (.inr (0, fs_34)) ∧ fs_34[1]? = some (va_rf r_37) ∧ (∃ a_38 : Nat, r_37 = some a_38 ∧ (∃ (fs_39 : List Value) (z_42 : Int32), h_33 a_38 = some (.inr (1, fs_39)) ∧ fs_39[1]? = some (.int z_42) ∧ ((z_32 < z_42 → (post (nI 0) h_33)) ∧ (¬ z_32 < z_42 → (∃ (fs_47 : List Value) (r_50 : Option Nat), h_33 a_1 = some (.inr (23, fs_47)) ∧ fs_47[5]? = some (va_rf r_50) ∧ (∃ fs_66 : List Value, h_33 b0 = some (.inr (0, fs_66)) ∧ (w_X0_toSongs (fun (z_51 : Int32) (h_52 : AH) => (∃ (fs_53 : List Value) (r_56 : Option Nat), h_52 b0 = some (.inr (0, fs_53)) ∧ fs_53[1]? = some (va_rf r_56) ∧ (∃ a_57 : Nat, r_56 = some a_57 ∧ (∃ (fs_58 : List Value) (z_61 : Int32), h_52 a_57 = some (.inr (1, fs_58)) ∧ fs_58[1]? = some (.int z_61) ∧ ((z_61 ≤ z_51 → (post (nI 0) h_52)) ∧ (¬ z_61 ≤ z_51 → (post (nI 1) h_52))))))) b0 r_50 h_33))))))))) b0 r_31 h)))))))))))))
theorem e_X0_isBack {post : (Int32) → (AH) → Prop}   {b0 : Nat} {x1 : Option Nat} {h : AH}  (hw : w_X0_isBack post  b0 x1 h) : VV l E X cX0_isBack RX0 "isBack" 2 r_X0_isBack (some .boolean) (vpi (fun (r : Int32) (h' : AH) => post r h')) h 0 0 0 [(0, va_rf (some b0)), (1, va_rf x1)] [] := by
  refine v_aload_n (q := 1) dX0_isBack_0 rfl rfl ?_
  obtain ⟨a_1, ea_1, hw⟩ := hw
  subst ea_1
  obtain ⟨fs_2, r_5, e_3, e_4, hw⟩ := hw
  refine v_getN in_X23 (ci := 23) rfl 5 (Nat.le_of_ble_eq_true rfl) q1261 rfl dX0_isBack_1 e_3 e_4 ?_
  obtain ⟨hw_9, hw_10⟩ := hw
  refine v_ifnull (tgt := 61) dX0_isBack_4 (by decide) (fun c_6 => ?_) (fun a_7 c_8 => ?_)
  · have hw := hw_9 c_6
    subst c_6
    refine v_iconst dX0_isBack_61 ic_0 ?_
    exact v_zret dX0_isBack_62 rfl rfl ⟨_, rfl, hw⟩
  · have hw := hw_10 a_7 c_8
    subst c_8
    refine v_aload_n (q := 1) dX0_isBack_7 rfl rfl ?_
    obtain ⟨fs_11, z_14, e_12, e_13, hw⟩ := hw
    refine v_getN in_X23 (ci := 23) rfl 1 (Nat.le_of_ble_eq_true rfl) q1253 rfl dX0_isBack_8 e_12 e_13 ?_
    refine v_aload_n (q := 0) dX0_isBack_11 rfl rfl ?_
    obtain ⟨fs_15, r_18, e_16, e_17, hw⟩ := hw
    refine v_get in_X0 (ci := 0) rfl 1 (Nat.le_of_ble_eq_true rfl) q319 rfl dX0_isBack_12 e_16 e_17 ?_
    obtain ⟨a_19, ea_19, hw⟩ := hw
    subst ea_19
    obtain ⟨fs_20, z_23, e_21, e_22, hw⟩ := hw
    refine v_getN in_X1 (ci := 1) rfl 0 (Nat.le_of_ble_eq_true rfl) q220 rfl dX0_isBack_15 e_21 e_22 ?_
    obtain ⟨hw_26, hw_27⟩ := hw
    refine v_icmp_le (tgt := 61) dX0_isBack_18 (by decide) (fun c_24 => ?_) (fun c_25 => ?_)
    · have hw := hw_26 c_24
      refine v_iconst dX0_isBack_61 ic_0 ?_
      exact v_zret dX0_isBack_62 rfl rfl ⟨_, rfl, hw⟩
    · have hw := hw_27 c_25
      refine v_aload_n (q := 0) dX0_isBack_21 rfl rfl ?_
      refine v_aload_n (q := 1) dX0_isBack_22 rfl rfl ?_
      obtain ⟨fs_28, r_31, e_29, e_30, hw⟩ := hw
      refine v_getN in_X23 (ci := 23) rfl 5 (Nat.le_of_ble_eq_true rfl) q1261 rfl dX0_isBack_23 e_29 e_30 ?_
      obtain ⟨fs_68, e_69, hw⟩ := hw
      refine v_callV q1140 q1142 qs39 q104 q1143 (ci := 0) rfl e_69 n_X0_toPrint ⟨Nat.le_of_ble_eq_true rfl, Nat.le_of_ble_eq_true rfl⟩ [va_rf r_31] [] (met_X0_toPrint hw) rfl (Nat.zero_le _) ⟨Nat.le_refl _, Nat.le_refl _⟩ dX0_isBack_26 rfl (v_ki (fun z_32 h_33 hv => ?_))
      clear hw
      have hw := hv
      clear hv
      refine v_aload_n (q := 0) dX0_isBack_29 rfl rfl ?_
      obtain ⟨fs_34, r_37, e_35, e_36, hw⟩ := hw
      refine v_get in_X0 (ci := 0) rfl 1 (Nat.le_of_ble_eq_true rfl) q319 rfl dX0_isBack_30 e_35 e_36 ?_
      obtain ⟨a_38, ea_38, hw⟩ := hw
      subst ea_38
      obtain ⟨fs_39, z_42, e_40, e_41, hw⟩ := hw
      refine v_getN in_X1 (ci := 1) rfl 1 (Nat.le_of_ble_eq_true rfl) q222 rfl dX0_isBack_33 e_40 e_41 ?_
      obtain ⟨hw_45, hw_46⟩ := hw
      refine v_icmp_lt (tgt := 61) dX0_isBack_36 (by decide) (fun c_43 => ?_) (fun c_44 => ?_)
      · have hw := hw_45 c_43
        refine v_iconst dX0_isBack_61 ic_0 ?_
        exact v_zret dX0_isBack_62 rfl rfl ⟨_, rfl, hw⟩
      · have hw := hw_46 c_44
        refine v_aload_n (q := 0) dX0_isBack_39 rfl rfl ?_
        refine v_aload_n (q := 1) dX0_isBack_40 rfl rfl ?_
        obtain ⟨fs_47, r_50, e_48, e_49, hw⟩ := hw
        refine v_getN in_X23 (ci := 23) rfl 5 (Nat.le_of_ble_eq_true rfl) q1261 rfl dX0_isBack_41 e_48 e_49 ?_
        obtain ⟨fs_66, e_67, hw⟩ := hw
        refine v_callV q1136 q1138 qs38 q104 q1139 (ci := 0) rfl e_67 n_X0_toSongs ⟨Nat.le_of_ble_eq_true rfl, Nat.le_of_ble_eq_true rfl⟩ [va_rf r_50] [] (met_X0_toSongs hw) rfl (Nat.zero_le _) ⟨Nat.le_refl _, Nat.le_refl _⟩ dX0_isBack_44 rfl (v_ki (fun z_51 h_52 hv => ?_))
        clear hw
        have hw := hv
        clear hv
        refine v_aload_n (q := 0) dX0_isBack_47 rfl rfl ?_
        obtain ⟨fs_53, r_56, e_54, e_55, hw⟩ := hw
        refine v_get in_X0 (ci := 0) rfl 1 (Nat.le_of_ble_eq_true rfl) q319 rfl dX0_isBack_48 e_54 e_55 ?_
        obtain ⟨a_57, ea_57, hw⟩ := hw
        subst ea_57
        obtain ⟨fs_58, z_61, e_59, e_60, hw⟩ := hw
        refine v_getN in_X1 (ci := 1) rfl 1 (Nat.le_of_ble_eq_true rfl) q222 rfl dX0_isBack_51 e_59 e_60 ?_
        obtain ⟨hw_64, hw_65⟩ := hw
        refine v_icmp_ge (tgt := 61) dX0_isBack_54 (by decide) (fun c_62 => ?_) (fun c_63 => ?_)
        · have hw := hw_64 c_62
          refine v_iconst dX0_isBack_61 ic_0 ?_
          exact v_zret dX0_isBack_62 rfl rfl ⟨_, rfl, hw⟩
        · have hw := hw_65 c_63
          refine v_iconst dX0_isBack_57 ic_1 ?_
          refine v_goto (tgt := 62) dX0_isBack_58 (by decide) ?_
          exact v_zret dX0_isBack_62 rfl rfl ⟨_, rfl, hw⟩
theorem met_X0_isBack {post : (Int32) → (AH) → Prop}   {b0 : Nat} {x1 : Option Nat} {h : AH}  (hw : w_X0_isBack post  b0 x1 h) : Mt l E yX0_isBack (ws_ yX0_isBack cX0_isBack 2 (some .boolean)) r_X0_isBack [va_rf (some b0), va_rf x1] h (vpi (fun (r : Int32) (h' : AH) => post r h')) := v_entry (by decide +kernel) (by cases x1 <;> exact (Nat.le_of_ble_eq_true rfl)) (by cases x1 <;> exact rfl) (fun _ => e_X0_isBack hw)
/-! X0_back -/
abbrev r_X0_back : Room := { frames := 6, cells := 0, slots := 0, locals := 144 }
theorem n_X0_back : vdn yX0_back 1 := ⟨by decide +kernel, by decide +kernel, by decide +kernel⟩
def w_X0_back (post : (Int32) → (AH) → Prop) (b0 : Nat) (x1 : Int32) (h : AH) : Prop :=
 (∃ fs_34 : List Value, h b0 = some (.inr (0, fs_34)) ∧ (w_X0_isAnswerAt (fun (z_1 : Int32) => ((¬ z_1 = 0 → (∃ (fs_6 : List Value) (r_9 : Option Nat), h b0 = some (.inr (0, fs_6)) ∧ fs_6[1]? = some (va_rf r_9) ∧ (∃ a_10 : Nat, r_9 = some a_10 ∧ (∃ (fs_11 : List Value) (r_14 : Option Nat), h a_10 = some (.inr (1, fs_11)) ∧ fs_11[7]? = some (va_rf r_14) ∧ (∃ a_15 : Nat, r_14 = some a_15 ∧ (∃ fs_28 : List Value, h a_15 = some (.inr (2, fs_28)) ∧ (w_J2_get (fun (r_16 : Option Nat) => (∃ a_17 : Nat, r_16 = some a_17 ∧ (∃ fs_18 : List Value, h a_17 = some (.inr (23, fs_18)) ∧ (∃ fs_26 : List Value, h b0 = some (.inr (0, fs_26)) ∧ (w_X0_isBack (fun (z_20 : Int32) (h_21 : AH) => ((z_20 = 0 → (post (nI 0) h_21)) ∧ (¬ z_20 = 0 → (post (nI 1) h_21)))) b0 (some a_17) h))))) a_15 x1 h))))))) ∧ (z_1 = 0 → (∃ fs_32 : List Value, h b0 = some (.inr (0, fs_32)) ∧ (w_X0_refuse (fun (z_30 : Int32) (h_31 : AH) => (post z_30 h_31)) b0 (-2) h))))) b0 x1 h))
theorem e_X0_back {post : (Int32) → (AH) → Prop}   {b0 : Nat} {x1 : Int32} {h : AH}  (hw : w_X0_back post  b0 x1 h) : VV l E X cX0_back RX0 "back" 2 r_X0_back (some .int) (vpi (fun (r : Int32) (h' : AH) => post r h')) h 0 0 0 [(0, va_rf (some b0)), (1, .int x1)] [] := by
  refine v_aload_n (q := 0) dX0_back_0 rfl rfl ?_
  refine v_iload_n (q := 1) dX0_back_1 rfl rfl ?_
  obtain ⟨fs_34, e_35, hw⟩ := hw
  refine v_callV q1279 q1281 qs44 q104 q1282 (ci := 0) rfl e_35 n_X0_isAnswerAt ⟨Nat.le_of_ble_eq_true rfl, Nat.le_of_ble_eq_true rfl⟩ [.int x1] [] (met_X0_isAnswerAt hw) rfl (Nat.zero_le _) ⟨Nat.le_refl _, Nat.le_refl _⟩ dX0_back_2 rfl (v_ki (fun z_1 h1 hv => ?_))
  clear hw
  obtain ⟨e9, hw⟩ := hv
  refine v_heap e9 ?_
  clear e9
  obtain ⟨hw_4, hw_5⟩ := hw
  refine v_if_ne (tgt := 15) dX0_back_5 (by decide) (fun c_2 => ?_) (fun c_3 => ?_)
  · have hw := hw_4 c_2
    refine v_aload_n (q := 0) dX0_back_15 rfl rfl ?_
    refine v_aload_n (q := 0) dX0_back_16 rfl rfl ?_
    obtain ⟨fs_6, r_9, e_7, e_8, hw⟩ := hw
    refine v_get in_X0 (ci := 0) rfl 1 (Nat.le_of_ble_eq_true rfl) q319 rfl dX0_back_17 e_7 e_8 ?_
    obtain ⟨a_10, ea_10, hw⟩ := hw
    subst ea_10
    obtain ⟨fs_11, r_14, e_12, e_13, hw⟩ := hw
    refine v_getN in_X1 (ci := 1) rfl 7 (Nat.le_of_ble_eq_true rfl) q234 rfl dX0_back_20 e_12 e_13 ?_
    refine v_iload_n (q := 1) dX0_back_23 rfl rfl ?_
    obtain ⟨a_15, ea_15, hw⟩ := hw
    subst ea_15
    obtain ⟨fs_28, e_29, hw⟩ := hw
    refine v_callV q577 q578 q579 q108 q580 (ci := 2) rfl e_29 n_J2_get ⟨Nat.le_of_ble_eq_true rfl, Nat.le_of_ble_eq_true rfl⟩ [.int x1] [va_rf (some b0)] (met_J2_get hw) rfl (by simp only [List.map_cons, List.map_nil, List.sum_cons, List.sum_nil, v_rf1, v_cI, v_cJ]; decide) ⟨Nat.le_refl _, Nat.le_refl _⟩ dX0_back_24 rfl (v_kq (fun r_16 h1 hv => ?_))
    clear hw
    obtain ⟨e9, hw⟩ := hv
    refine v_heap e9 ?_
    clear e9
    obtain ⟨a_17, ea_17, hw⟩ := hw
    subst ea_17
    obtain ⟨fs_18, e_19, hw⟩ := hw
    refine v_cast (ci := 23) rfl q1244 dX0_back_27 e_19 ?_
    obtain ⟨fs_26, e_27, hw⟩ := hw
    refine v_callV q1283 q1285 qs45 q104 q1286 (ci := 0) rfl e_27 n_X0_isBack ⟨Nat.le_of_ble_eq_true rfl, Nat.le_of_ble_eq_true rfl⟩ [va_rf (some a_17)] [] (met_X0_isBack hw) rfl (Nat.zero_le _) ⟨Nat.le_refl _, Nat.le_refl _⟩ dX0_back_30 rfl (v_ki (fun z_20 h_21 hv => ?_))
    clear hw
    have hw := hv
    clear hv
    obtain ⟨hw_24, hw_25⟩ := hw
    refine v_if_eq (tgt := 40) dX0_back_33 (by decide) (fun c_22 => ?_) (fun c_23 => ?_)
    · have hw := hw_24 c_22
      refine v_iconst dX0_back_40 ic_0 ?_
      exact v_iret dX0_back_41 rfl ⟨_, rfl, hw⟩
    · have hw := hw_25 c_23
      refine v_iconst dX0_back_36 ic_1 ?_
      refine v_goto (tgt := 41) dX0_back_37 (by decide) ?_
      exact v_iret dX0_back_41 rfl ⟨_, rfl, hw⟩
  · have hw := hw_5 c_3
    refine v_aload_n (q := 0) dX0_back_8 rfl rfl ?_
    refine v_bipush dX0_back_9 bp_m2 ?_
    obtain ⟨fs_32, e_33, hw⟩ := hw
    refine v_callV q396 q398 qs0 q104 q399 (ci := 0) rfl e_33 n_X0_refuse ⟨Nat.le_of_ble_eq_true rfl, Nat.le_of_ble_eq_true rfl⟩ [.int (-2)] [] (met_X0_refuse hw) rfl (Nat.zero_le _) ⟨Nat.le_refl _, Nat.le_refl _⟩ dX0_back_11 rfl (v_ki (fun z_30 h_31 hv => ?_))
    clear hw
    have hw := hv
    clear hv
    exact v_iret dX0_back_14 rfl ⟨_, rfl, hw⟩
theorem met_X0_back {post : (Int32) → (AH) → Prop}   {b0 : Nat} {x1 : Int32} {h : AH}  (hw : w_X0_back post  b0 x1 h) : Mt l E yX0_back (ws_ yX0_back cX0_back 2 (some .int)) r_X0_back [va_rf (some b0), .int x1] h (vpi (fun (r : Int32) (h' : AH) => post r h')) := v_entry (by decide +kernel) (Nat.le_of_ble_eq_true rfl) rfl (fun _ => e_X0_back hw)
/-! X0_backOdds -/
abbrev r_X0_backOdds : Room := { frames := 5, cells := 0, slots := 0, locals := 123 }
theorem n_X0_backOdds : vdn yX0_backOdds 2 := ⟨by decide +kernel, by decide +kernel, by decide +kernel⟩
def w_X0_backOdds_15 (post : (Int32) → (AH) → Prop) (b0 : Nat) (x1 : Int32) (x2 : Int32) (h : AH) : Prop :=
 (∃ fs_3 : List Value, h b0 = some (.inr (0, fs_3)) ∧ (w_X0_refuse (fun (z_1 : Int32) (h_2 : AH) => (post z_1 h_2)) b0 (-2) h))
def w_X0_backOdds (post : (Int32) → (AH) → Prop) (b0 : Nat) (x1 : Int32) (x2 : Int32) (h : AH) : Prop :=
 (∃ fs_78 : List Value, h b0 = some (.inr (0, fs_78)) ∧ (w_X0_isAnswerAt (fun (z_5 : Int32) => ((z_5 = 0 → (w_X0_backOdds_15 post b0 x1 x2 h)) ∧ (¬ z_5 = 0 → (w_X0_isPart (fun (z_10 : Int32) => ((¬ z_10 = 0 → (∃ (fs_15 : List Value) (r_18 : Option Nat), h b0 = some (.inr (0, fs_15)) ∧ fs_15[1]? = some (va_rf r_18) ∧ (∃ a_19 : Nat, r_18 = some a_19 ∧ (∃ (fs_20 : List Value) (r_23 : Option Nat), h a_19 = some (.inr (1, fs_20)) ∧ fs_20[7]? = some (va_rf r_23) ∧ (∃ a_24 : Nat, r_23 = some a_24 ∧ (∃ fs_76 : List Value, h a_24 = some (.inr (2, fs_76)) ∧ (w_J2_get (fun (r_25 : Option Nat) => (∃ a_26 : Nat, r_25 = some a_26 ∧ (∃ fs_27 : List Value, h a_26 = some (.inr (23, fs_27)) ∧ (∃ (fs_29 : List Value) (r_32 : Option Nat), h a_26 = some (.inr (23, fs_29)) ∧ fs_29[5]? = some (va_rf r_32) ∧ ((r_32 = none → (post x2 h)) ∧ (∀ a_34 : Nat, r_32 = some a_34 → (∃ (fs_38 : List Value) (z_41 : Int32), h a_26 = some (.inr (23, fs_38)) ∧ fs_38[1]? = some (.int z_41) ∧ (∃ (fs_42 : List Value) (r_45 : Option Nat), h b0 = some (.inr (0, fs_42)) ∧ fs_42[1]? = some (va_rf r_45) ∧ (∃ a_46 : Nat, r_45 = some a_46 ∧ (∃ (fs_47 : List Value) (z_50 : Int32), h a_46 = some (.inr (1, fs_47)) ∧ fs_47[0]? = some (.int z_50) ∧ ((z_50 < z_41 → (∃ (fs_55 : List Value) (r_58 : Option Nat), h a_26 = some (.inr (23, fs_55)) ∧ fs_55[5]? = some (va_rf r_58) ∧ (∃ fs_74 : List Value, h b0 = some (.inr (0, fs_74)) ∧ (w_X0_toPrint (fun (z_59 : Int32) (h_60 : AH) => (∃ (fs_61 : List Value) (z_64 : Int32), h_60 a_26 = some (.inr (23, fs_61)) ∧ fs_61[2]? = some (.int z_64) ∧ (∃ (fs_65 : List Value) (r_68 : Option Nat), h_60 a_26 = some (.inr (23, fs_65)) ∧ fs_65[5]? = some (va_rf r_68) ∧ (∃ fs_72 : List Value, h_60 b0 = some (.inr (0, fs_72)) ∧ (w_X0_toSongs (fun (z_69 : Int32) (h_70 : AH) => (w_X0_part (fun (y_71 : Int64) => (post ((y_71).toInt32) h_70)) (((z_59).toInt64) * (((z_64 + (nI 1))).toInt64)) ((lN 10) * ((z_69).toInt64)) x2)) b0 r_68 h_60))))) b0 r_58 h)))) ∧ (¬ z_50 < z_41 → (post x2 h))))))))))))) a_24 x1 h))))))) ∧ (z_10 = 0 → (w_X0_backOdds_15 post b0 x1 x2 h)))) x2)))) b0 x1 h))
theorem b_X0_backOdds_15 {post : (Int32) → (AH) → Prop}   {b0 : Nat} {x1 : Int32} {x2 : Int32}    (h : AH) (hw : w_X0_backOdds_15 post b0 x1 x2 h) : VV l E X cX0_backOdds RX0 "backOdds" 4 r_X0_backOdds (some .int) (vpi (fun (r : Int32) (h' : AH) => post r h')) h 0 0 15 [(0, va_rf (some b0)), (1, .int x1), (2, .int x2)] [] := by
  refine v_aload_n (q := 0) dX0_backOdds_15 rfl rfl ?_
  refine v_bipush dX0_backOdds_16 bp_m2 ?_
  obtain ⟨fs_3, e_4, hw⟩ := hw
  refine v_callV q396 q398 qs0 q104 q399 (ci := 0) rfl e_4 n_X0_refuse ⟨Nat.le_of_ble_eq_true rfl, Nat.le_of_ble_eq_true rfl⟩ [.int (-2)] [] (met_X0_refuse hw) rfl (Nat.zero_le _) ⟨Nat.le_refl _, Nat.le_refl _⟩ dX0_backOdds_18 rfl (v_ki (fun z_1 h_2 hv => ?_))
  clear hw
  have hw := hv
  clear hv
  exact v_iret dX0_backOdds_21 rfl ⟨_, rfl, hw⟩
theorem e_X0_backOdds {post : (Int32) → (AH) → Prop}   {b0 : Nat} {x1 : Int32} {x2 : Int32} {h : AH}  (hw : w_X0_backOdds post  b0 x1 x2 h) : VV l E X cX0_backOdds RX0 "backOdds" 4 r_X0_backOdds (some .int) (vpi (fun (r : Int32) (h' : AH) => post r h')) h 0 0 0 [(0, va_rf (some b0)), (1, .int x1), (2, .int x2)] [] := by
  refine v_aload_n (q := 0) dX0_backOdds_0 rfl rfl ?_
  refine v_iload_n (q := 1) dX0_backOdds_1 rfl rfl ?_
  obtain ⟨fs_78, e_79, hw⟩ := hw
  refine v_callV q1279 q1281 qs44 q104 q1282 (ci := 0) rfl e_79 n_X0_isAnswerAt ⟨Nat.le_of_ble_eq_true rfl, Nat.le_of_ble_eq_true rfl⟩ [.int x1] [] (met_X0_isAnswerAt hw) rfl (Nat.zero_le _) ⟨Nat.le_refl _, Nat.le_refl _⟩ dX0_backOdds_2 rfl (v_ki (fun z_5 h1 hv => ?_))
  clear hw
  obtain ⟨e9, hw⟩ := hv
  refine v_heap e9 ?_
  clear e9
  obtain ⟨hw_8, hw_9⟩ := hw
  refine v_if_eq (tgt := 15) dX0_backOdds_5 (by decide) (fun c_6 => ?_) (fun c_7 => ?_)
  · have hw := hw_8 c_6
    refine v_sub [0, 1, 2] rfl ?_
    exact b_X0_backOdds_15 h hw
  · have hw := hw_9 c_7
    refine v_iload_n (q := 2) dX0_backOdds_8 rfl rfl ?_
    refine v_callS q1160 q1161 q104 q1162 n_X0_isPart ⟨Nat.le_of_ble_eq_true rfl, Nat.le_of_ble_eq_true rfl⟩ [.int x2] [] (met_X0_isPart hw) rfl (Nat.zero_le _) ⟨Nat.le_refl _, Nat.le_refl _⟩ dX0_backOdds_9 rfl (v_ki (fun z_10 h1 hv => ?_))
    clear hw
    obtain ⟨e9, hw⟩ := hv
    refine v_heap e9 ?_
    clear e9
    obtain ⟨hw_13, hw_14⟩ := hw
    refine v_if_ne (tgt := 22) dX0_backOdds_12 (by decide) (fun c_11 => ?_) (fun c_12 => ?_)
    · have hw := hw_13 c_11
      refine v_aload_n (q := 0) dX0_backOdds_22 rfl rfl ?_
      obtain ⟨fs_15, r_18, e_16, e_17, hw⟩ := hw
      refine v_get in_X0 (ci := 0) rfl 1 (Nat.le_of_ble_eq_true rfl) q319 rfl dX0_backOdds_23 e_16 e_17 ?_
      obtain ⟨a_19, ea_19, hw⟩ := hw
      subst ea_19
      obtain ⟨fs_20, r_23, e_21, e_22, hw⟩ := hw
      refine v_getN in_X1 (ci := 1) rfl 7 (Nat.le_of_ble_eq_true rfl) q234 rfl dX0_backOdds_26 e_21 e_22 ?_
      refine v_iload_n (q := 1) dX0_backOdds_29 rfl rfl ?_
      obtain ⟨a_24, ea_24, hw⟩ := hw
      subst ea_24
      obtain ⟨fs_76, e_77, hw⟩ := hw
      refine v_callV q577 q578 q579 q108 q580 (ci := 2) rfl e_77 n_J2_get ⟨Nat.le_of_ble_eq_true rfl, Nat.le_of_ble_eq_true rfl⟩ [.int x1] [] (met_J2_get hw) rfl (Nat.zero_le _) ⟨Nat.le_refl _, Nat.le_refl _⟩ dX0_backOdds_30 rfl (v_kq (fun r_25 h1 hv => ?_))
      clear hw
      obtain ⟨e9, hw⟩ := hv
      refine v_heap e9 ?_
      clear e9
      obtain ⟨a_26, ea_26, hw⟩ := hw
      subst ea_26
      obtain ⟨fs_27, e_28, hw⟩ := hw
      refine v_cast (ci := 23) rfl q1244 dX0_backOdds_33 e_28 ?_
      refine v_astore_n (lv1 := [(3, va_rf (some a_26)), (0, va_rf (some b0)), (1, .int x1), (2, .int x2)]) dX0_backOdds_36 rfl (Nat.le_of_ble_eq_true rfl) rfl ?_
      refine v_aload_n (q := 0) dX0_backOdds_37 rfl rfl ?_
      obtain ⟨fs_29, r_32, e_30, e_31, hw⟩ := hw
      refine v_getN in_X23 (ci := 23) rfl 5 (Nat.le_of_ble_eq_true rfl) q1261 rfl dX0_backOdds_38 e_30 e_31 ?_
      obtain ⟨hw_36, hw_37⟩ := hw
      refine v_ifnull (tgt := 58) dX0_backOdds_41 (by decide) (fun c_33 => ?_) (fun a_34 c_35 => ?_)
      · have hw := hw_36 c_33
        subst c_33
        refine v_iload_n (q := 3) dX0_backOdds_58 rfl rfl ?_
        exact v_iret dX0_backOdds_59 rfl ⟨_, rfl, hw⟩
      · have hw := hw_37 a_34 c_35
        subst c_35
        refine v_aload_n (q := 0) dX0_backOdds_44 rfl rfl ?_
        obtain ⟨fs_38, z_41, e_39, e_40, hw⟩ := hw
        refine v_getN in_X23 (ci := 23) rfl 1 (Nat.le_of_ble_eq_true rfl) q1253 rfl dX0_backOdds_45 e_39 e_40 ?_
        refine v_aload_n (q := 1) dX0_backOdds_48 rfl rfl ?_
        obtain ⟨fs_42, r_45, e_43, e_44, hw⟩ := hw
        refine v_get in_X0 (ci := 0) rfl 1 (Nat.le_of_ble_eq_true rfl) q319 rfl dX0_backOdds_49 e_43 e_44 ?_
        obtain ⟨a_46, ea_46, hw⟩ := hw
        subst ea_46
        obtain ⟨fs_47, z_50, e_48, e_49, hw⟩ := hw
        refine v_getN in_X1 (ci := 1) rfl 0 (Nat.le_of_ble_eq_true rfl) q220 rfl dX0_backOdds_52 e_48 e_49 ?_
        obtain ⟨hw_53, hw_54⟩ := hw
        refine v_icmp_gt (tgt := 60) dX0_backOdds_55 (by decide) (fun c_51 => ?_) (fun c_52 => ?_)
        · have hw := hw_53 c_51
          refine v_aload_n (q := 1) dX0_backOdds_60 rfl rfl ?_
          refine v_aload_n (q := 0) dX0_backOdds_61 rfl rfl ?_
          obtain ⟨fs_55, r_58, e_56, e_57, hw⟩ := hw
          refine v_getN in_X23 (ci := 23) rfl 5 (Nat.le_of_ble_eq_true rfl) q1261 rfl dX0_backOdds_62 e_56 e_57 ?_
          obtain ⟨fs_74, e_75, hw⟩ := hw
          refine v_callV q1140 q1142 qs39 q104 q1143 (ci := 0) rfl e_75 n_X0_toPrint ⟨Nat.le_of_ble_eq_true rfl, Nat.le_of_ble_eq_true rfl⟩ [va_rf r_58] [] (met_X0_toPrint hw) rfl (Nat.zero_le _) ⟨Nat.le_refl _, Nat.le_refl _⟩ dX0_backOdds_65 rfl (v_ki (fun z_59 h_60 hv => ?_))
          clear hw
          have hw := hv
          clear hv
          refine v_i2l dX0_backOdds_68 ?_
          refine v_aload_n (q := 0) dX0_backOdds_69 rfl rfl ?_
          obtain ⟨fs_61, z_64, e_62, e_63, hw⟩ := hw
          refine v_getN in_X23 (ci := 23) rfl 2 (Nat.le_of_ble_eq_true rfl) q1255 rfl dX0_backOdds_70 e_62 e_63 ?_
          refine v_iconst dX0_backOdds_73 ic_1 ?_
          refine v_iadd dX0_backOdds_74 ?_
          refine v_i2l dX0_backOdds_75 ?_
          refine v_lmul dX0_backOdds_76 ?_
          refine v_ldc2 (v := (lN 10)) dX0_backOdds_77 q1291 ?_
          refine v_aload_n (q := 1) dX0_backOdds_80 rfl rfl ?_
          refine v_aload_n (q := 0) dX0_backOdds_81 rfl rfl ?_
          obtain ⟨fs_65, r_68, e_66, e_67, hw⟩ := hw
          refine v_getN in_X23 (ci := 23) rfl 5 (Nat.le_of_ble_eq_true rfl) q1261 rfl dX0_backOdds_82 e_66 e_67 ?_
          obtain ⟨fs_72, e_73, hw⟩ := hw
          refine v_callV q1136 q1138 qs38 q104 q1139 (ci := 0) rfl e_73 n_X0_toSongs ⟨Nat.le_of_ble_eq_true rfl, Nat.le_of_ble_eq_true rfl⟩ [va_rf r_68] [.long (lN 10), .long (((z_59).toInt64) * (((z_64 + (nI 1))).toInt64))] (met_X0_toSongs hw) rfl (Nat.le_of_ble_eq_true rfl) ⟨Nat.le_refl _, Nat.le_refl _⟩ dX0_backOdds_85 rfl (v_ki (fun z_69 h_70 hv => ?_))
          clear hw
          have hw := hv
          clear hv
          refine v_i2l dX0_backOdds_88 ?_
          refine v_lmul dX0_backOdds_89 ?_
          refine v_iload_n (q := 3) dX0_backOdds_90 rfl rfl ?_
          refine v_callS q1170 q1171 q104 q1172 n_X0_part ⟨Nat.le_of_ble_eq_true rfl, Nat.le_of_ble_eq_true rfl⟩ [.long (((z_59).toInt64) * (((z_64 + (nI 1))).toInt64)), .long ((lN 10) * ((z_69).toInt64)), .int x2] [] (met_X0_part hw) rfl (Nat.zero_le _) ⟨Nat.le_refl _, Nat.le_refl _⟩ dX0_backOdds_91 rfl (v_kl (fun y_71 h1 hv => ?_))
          clear hw
          obtain ⟨e9, hw⟩ := hv
          refine v_heap e9 ?_
          clear e9
          refine v_l2i dX0_backOdds_94 ?_
          exact v_iret dX0_backOdds_95 rfl ⟨_, rfl, hw⟩
        · have hw := hw_54 c_52
          refine v_iload_n (q := 3) dX0_backOdds_58 rfl rfl ?_
          exact v_iret dX0_backOdds_59 rfl ⟨_, rfl, hw⟩
    · have hw := hw_14 c_12
      refine v_sub [0, 1, 2] rfl ?_
      exact b_X0_backOdds_15 h hw
theorem met_X0_backOdds {post : (Int32) → (AH) → Prop}   {b0 : Nat} {x1 : Int32} {x2 : Int32} {h : AH}  (hw : w_X0_backOdds post  b0 x1 x2 h) : Mt l E yX0_backOdds (ws_ yX0_backOdds cX0_backOdds 4 (some .int)) r_X0_backOdds [va_rf (some b0), .int x1, .int x2] h (vpi (fun (r : Int32) (h' : AH) => post r h')) := v_entry (by decide +kernel) (Nat.le_of_ble_eq_true rfl) rfl (fun _ => e_X0_backOdds hw)
/-! X0_saidTo -/
abbrev r_X0_saidTo : Room := { frames := 0, cells := 0, slots := 0, locals := 0 }
theorem n_X0_saidTo : vdn yX0_saidTo 2 := ⟨by decide +kernel, by decide +kernel, by decide +kernel⟩
def w_X0_saidTo (post : (Int32) → Prop) (x0 : Option Nat) (x1 : Int32) (h : AH) : Prop :=
 ((¬ x1 = 0 → (∃ a_5 : Nat, x0 = some a_5 ∧ (∃ (fs_6 : List Value) (z_9 : Int32), h a_5 = some (.inr (23, fs_6)) ∧ fs_6[4]? = some (.int z_9) ∧ (post z_9)))) ∧ (x1 = 0 → (∃ a_10 : Nat, x0 = some a_10 ∧ (∃ (fs_11 : List Value) (z_14 : Int32), h a_10 = some (.inr (23, fs_11)) ∧ fs_11[3]? = some (.int z_14) ∧ (post z_14)))))
theorem e_X0_saidTo {post : (Int32) → Prop}   {x0 : Option Nat} {x1 : Int32} {h : AH}  (hw : w_X0_saidTo post  x0 x1 h) : VV l E X cX0_saidTo RX0 "saidTo" 2 r_X0_saidTo (some .int) (vpi (fun (r : Int32) (h' : AH) => h' = h ∧ post r)) h 0 0 0 [(0, va_rf x0), (1, .int x1)] [] := by
  refine v_iload_n (q := 1) dX0_saidTo_0 rfl rfl ?_
  obtain ⟨hw_3, hw_4⟩ := hw
  refine v_if_ne (tgt := 11) dX0_saidTo_1 (by decide) (fun c_1 => ?_) (fun c_2 => ?_)
  · have hw := hw_3 c_1
    refine v_aload_n (q := 0) dX0_saidTo_11 rfl rfl ?_
    obtain ⟨a_5, ea_5, hw⟩ := hw
    subst ea_5
    obtain ⟨fs_6, z_9, e_7, e_8, hw⟩ := hw
    refine v_getN in_X23 (ci := 23) rfl 4 (Nat.le_of_ble_eq_true rfl) q1259 rfl dX0_saidTo_12 e_7 e_8 ?_
    exact v_iret dX0_saidTo_15 rfl ⟨_, rfl, rfl, hw⟩
  · have hw := hw_4 c_2
    refine v_aload_n (q := 0) dX0_saidTo_4 rfl rfl ?_
    obtain ⟨a_10, ea_10, hw⟩ := hw
    subst ea_10
    obtain ⟨fs_11, z_14, e_12, e_13, hw⟩ := hw
    refine v_getN in_X23 (ci := 23) rfl 3 (Nat.le_of_ble_eq_true rfl) q1257 rfl dX0_saidTo_5 e_12 e_13 ?_
    refine v_goto (tgt := 15) dX0_saidTo_8 (by decide) ?_
    exact v_iret dX0_saidTo_15 rfl ⟨_, rfl, rfl, hw⟩
theorem met_X0_saidTo {post : (Int32) → Prop}   {x0 : Option Nat} {x1 : Int32} {h : AH}  (hw : w_X0_saidTo post  x0 x1 h) : Mt l E yX0_saidTo (ws_ yX0_saidTo cX0_saidTo 2 (some .int)) r_X0_saidTo [va_rf x0, .int x1] h (vpi (fun (r : Int32) (h' : AH) => h' = h ∧ post r)) := v_entry (by decide +kernel) (by cases x0 <;> exact (Nat.le_of_ble_eq_true rfl)) (by cases x0 <;> exact rfl) (fun _ => e_X0_saidTo hw)
/-! X0_parted -/
abbrev r_X0_parted : Room := { frames := 6, cells := 0, slots := 0, locals := 144 }
theorem n_X0_parted : vdn yX0_parted 2 := ⟨by decide +kernel, by decide +kernel, by decide +kernel⟩
def w_X0_parted_92 (post : (Int32) → (AH) → Prop) (k22 : (Int32) → (Int32) → (AH) → Prop) (b0 : Nat) (x1 : Int32) (x2 : Int32) (x3 : Int32) (x4 : Int32) (h : AH) : Prop :=
 (∀ z_1 : Int32, z_1 = x4 + (nI 1) → (k22 x3 z_1 h))
def w_X0_parted_69 (post : (Int32) → (AH) → Prop) (k22 : (Int32) → (Int32) → (AH) → Prop) (b0 : Nat) (x1 : Int32) (x2 : Int32) (x3 : Int32) (x4 : Int32) (x5 : Option Nat) (s0 : Int32) (s1 : Int32) (h : AH) : Prop :=
 ((¬ s1 = s0 → (w_X0_parted_92 post k22 b0 x1 x2 x3 x4 h)) ∧ (s1 = s0 → (∃ fs_18 : List Value, h b0 = some (.inr (0, fs_18)) ∧ (w_X0_isBack (fun (z_6 : Int32) (h_7 : AH) => ((¬ z_6 = 0 → (w_X0_parted_92 post k22 b0 x1 x2 x3 x4 h_7)) ∧ (z_6 = 0 → (∃ a_12 : Nat, x5 = some a_12 ∧ (∃ (fs_13 : List Value) (z_16 : Int32), h_7 a_12 = some (.inr (23, fs_13)) ∧ fs_13[2]? = some (.int z_16) ∧ (∀ z_17 : Int32, z_17 = (x3 + ((nI 10) - z_16)) → (w_X0_parted_92 post k22 b0 x1 x2 z_17 x4 h_7))))))) b0 x5 h))))
def w_X0_parted_22 (post : (Int32) → (AH) → Prop) (b0 : Nat) (x1 : Int32) (x2 : Int32) : Nat → (Int32) → (Int32) → (AH) → Prop
 | 0, _, _, _ => False
 | n0 + 1, x3, x4, h =>
 (∃ (fs_20 : List Value) (r_23 : Option Nat), h b0 = some (.inr (0, fs_20)) ∧ fs_20[1]? = some (va_rf r_23) ∧ (∃ a_24 : Nat, r_23 = some a_24 ∧ (∃ (fs_25 : List Value) (r_28 : Option Nat), h a_24 = some (.inr (1, fs_25)) ∧ fs_25[7]? = some (va_rf r_28) ∧ (∃ a_29 : Nat, r_28 = some a_29 ∧ (∃ fs_56 : List Value, h a_29 = some (.inr (2, fs_56)) ∧ (w_J2_size (fun (z_30 : Int32) => ((z_30 ≤ x4 → (post x3 h)) ∧ (¬ z_30 ≤ x4 → (∃ (fs_35 : List Value) (r_38 : Option Nat), h b0 = some (.inr (0, fs_35)) ∧ fs_35[1]? = some (va_rf r_38) ∧ (∃ a_39 : Nat, r_38 = some a_39 ∧ (∃ (fs_40 : List Value) (r_43 : Option Nat), h a_39 = some (.inr (1, fs_40)) ∧ fs_40[7]? = some (va_rf r_43) ∧ (∃ a_44 : Nat, r_43 = some a_44 ∧ (∃ fs_54 : List Value, h a_44 = some (.inr (2, fs_54)) ∧ (w_J2_get (fun (r_45 : Option Nat) => (∃ a_46 : Nat, r_45 = some a_46 ∧ (∃ fs_47 : List Value, h a_46 = some (.inr (23, fs_47)) ∧ (w_X0_saidTo (fun (z_49 : Int32) => ((x2 = 0 → (w_X0_parted_69 post (fun (q0 : Int32) (q1 : Int32) (q2 : AH) => w_X0_parted_22 post b0 x1 x2 n0 q0 q1 q2) b0 x1 x2 x3 x4 (some a_46) (nI 0) z_49 h)) ∧ (¬ x2 = 0 → (w_X0_parted_69 post (fun (q0 : Int32) (q1 : Int32) (q2 : AH) => w_X0_parted_22 post b0 x1 x2 n0 q0 q1 q2) b0 x1 x2 x3 x4 (some a_46) (nI 1) z_49 h)))) (some a_46) x1 h)))) a_44 x4 h))))))))) a_29 h))))))
def w_X0_parted (post : (Int32) → (AH) → Prop) (b0 : Nat) (x1 : Int32) (x2 : Int32) (h : AH) : Prop :=
 (w_X0_in (fun (z_58 : Int32) => ((¬ z_58 = 0 → (∃ n1 : Nat, (w_X0_parted_22 post b0 x1 x2 n1 (nI 0) (nI 0) h))) ∧ (z_58 = 0 → (∃ fs_66 : List Value, h b0 = some (.inr (0, fs_66)) ∧ (w_X0_refuse (fun (z_64 : Int32) (h_65 : AH) => (post z_64 h_65)) b0 (-2) h))))) ((x1).toInt64) (lN 0) (lN 1))
theorem b_X0_parted_92 {post : (Int32) → (AH) → Prop}   {b0 : Nat} {x1 : Int32} {x2 : Int32} {k22 : (Int32) → (Int32) → (AH) → Prop}  (hk22 : ∀ (x3 : Int32) (x4 : Int32) (h : AH), k22 x3 x4 h → VV l E X cX0_parted RX0 "parted" 6 r_X0_parted (some .int) (vpi (fun (r : Int32) (h' : AH) => post r h')) h 0 0 22 [(0, va_rf (some b0)), (1, .int x1), (2, .int x2), (3, .int x3), (4, .int x4)] []) (x3 : Int32) (x4 : Int32) (h : AH) (hw : w_X0_parted_92 post k22 b0 x1 x2 x3 x4 h) : VV l E X cX0_parted RX0 "parted" 6 r_X0_parted (some .int) (vpi (fun (r : Int32) (h' : AH) => post r h')) h 0 0 92 [(0, va_rf (some b0)), (1, .int x1), (2, .int x2), (3, .int x3), (4, .int x4)] [] := by
  obtain ⟨z_1, e_1⟩ : ∃ z9 : Int32, z9 = x4 + (nI 1) := ⟨_, rfl⟩
  replace hw := hw z_1 e_1
  refine v_iinc (q := 4) (v := z_1) (lv1 := [(4, .int z_1), (0, va_rf (some b0)), (1, .int x1), (2, .int x2), (3, .int x3)]) dX0_parted_92 rfl (by rw [e_1, ic_1]) (Nat.le_of_ble_eq_true rfl) rfl ?_
  refine v_goto (tgt := 22) dX0_parted_95 (by decide) ?_
  refine v_sub [1, 2, 3, 4, 0] rfl ?_
  exact hk22 x3 z_1 h hw
theorem b_X0_parted_69 {post : (Int32) → (AH) → Prop}   {b0 : Nat} {x1 : Int32} {x2 : Int32} {k22 : (Int32) → (Int32) → (AH) → Prop}  (hk22 : ∀ (x3 : Int32) (x4 : Int32) (h : AH), k22 x3 x4 h → VV l E X cX0_parted RX0 "parted" 6 r_X0_parted (some .int) (vpi (fun (r : Int32) (h' : AH) => post r h')) h 0 0 22 [(0, va_rf (some b0)), (1, .int x1), (2, .int x2), (3, .int x3), (4, .int x4)] []) (x3 : Int32) (x4 : Int32) (x5 : Option Nat) (s0 : Int32) (s1 : Int32) (h : AH) (hw : w_X0_parted_69 post k22 b0 x1 x2 x3 x4 x5 s0 s1 h) : VV l E X cX0_parted RX0 "parted" 6 r_X0_parted (some .int) (vpi (fun (r : Int32) (h' : AH) => post r h')) h 0 0 69 [(0, va_rf (some b0)), (1, .int x1), (2, .int x2), (3, .int x3), (4, .int x4), (5, va_rf x5)] [.int s0, .int s1] := by
  obtain ⟨hw_4, hw_5⟩ := hw
  refine v_icmp_ne (tgt := 92) dX0_parted_69 (by decide) (fun c_2 => ?_) (fun c_3 => ?_)
  · have hw := hw_4 c_2
    refine v_sub [0, 1, 2, 3, 4] rfl ?_
    exact b_X0_parted_92 hk22 x3 x4 h hw
  · have hw := hw_5 c_3
    refine v_aload_n (q := 0) dX0_parted_72 rfl rfl ?_
    refine v_aload (q := 5) dX0_parted_73 rfl ?_
    obtain ⟨fs_18, e_19, hw⟩ := hw
    refine v_callV q1283 q1285 qs45 q104 q1286 (ci := 0) rfl e_19 n_X0_isBack ⟨Nat.le_of_ble_eq_true rfl, Nat.le_of_ble_eq_true rfl⟩ [va_rf x5] [] (met_X0_isBack hw) rfl (Nat.zero_le _) ⟨Nat.le_refl _, Nat.le_refl _⟩ dX0_parted_75 rfl (v_ki (fun z_6 h_7 hv => ?_))
    clear hw
    have hw := hv
    clear hv
    obtain ⟨hw_10, hw_11⟩ := hw
    refine v_if_ne (tgt := 92) dX0_parted_78 (by decide) (fun c_8 => ?_) (fun c_9 => ?_)
    · have hw := hw_10 c_8
      refine v_sub [0, 1, 2, 3, 4] rfl ?_
      exact b_X0_parted_92 hk22 x3 x4 h_7 hw
    · have hw := hw_11 c_9
      refine v_iload_n (q := 3) dX0_parted_81 rfl rfl ?_
      refine v_bipush dX0_parted_82 bp_10 ?_
      refine v_aload (q := 5) dX0_parted_84 rfl ?_
      obtain ⟨a_12, ea_12, hw⟩ := hw
      subst ea_12
      obtain ⟨fs_13, z_16, e_14, e_15, hw⟩ := hw
      refine v_getN in_X23 (ci := 23) rfl 2 (Nat.le_of_ble_eq_true rfl) q1255 rfl dX0_parted_86 e_14 e_15 ?_
      refine v_isub dX0_parted_89 ?_
      refine v_iadd dX0_parted_90 ?_
      refine v_topi (fun z_17 e_17 => ?_)
      replace hw := hw z_17 e_17
      refine v_istore_n (lv1 := [(3, .int z_17), (0, va_rf (some b0)), (1, .int x1), (2, .int x2), (4, .int x4), (5, va_rf (some a_12))]) dX0_parted_91 rfl (Nat.le_of_ble_eq_true rfl) rfl ?_
      refine v_sub [1, 2, 3, 0, 4] rfl ?_
      exact b_X0_parted_92 hk22 z_17 x4 h_7 hw
theorem b_X0_parted_22 {post : (Int32) → (AH) → Prop}   {b0 : Nat} {x1 : Int32} {x2 : Int32}    : ∀ (n0 : Nat) (x3 : Int32) (x4 : Int32) (h : AH), w_X0_parted_22 post b0 x1 x2 n0 x3 x4 h → VV l E X cX0_parted RX0 "parted" 6 r_X0_parted (some .int) (vpi (fun (r : Int32) (h' : AH) => post r h')) h 0 0 22 [(0, va_rf (some b0)), (1, .int x1), (2, .int x2), (3, .int x3), (4, .int x4)] [] := by
  intro n0
  induction n0 with
  | zero =>
    intro x3 x4 h hw
    exact hw.elim
  | succ n0 ih =>
    intro x3 x4 h hw
    refine v_iload (q := 4) dX0_parted_22 rfl ?_
    refine v_aload_n (q := 0) dX0_parted_24 rfl rfl ?_
    obtain ⟨fs_20, r_23, e_21, e_22, hw⟩ := hw
    refine v_get in_X0 (ci := 0) rfl 1 (Nat.le_of_ble_eq_true rfl) q319 rfl dX0_parted_25 e_21 e_22 ?_
    obtain ⟨a_24, ea_24, hw⟩ := hw
    subst ea_24
    obtain ⟨fs_25, r_28, e_26, e_27, hw⟩ := hw
    refine v_getN in_X1 (ci := 1) rfl 7 (Nat.le_of_ble_eq_true rfl) q234 rfl dX0_parted_28 e_26 e_27 ?_
    obtain ⟨a_29, ea_29, hw⟩ := hw
    subst ea_29
    obtain ⟨fs_56, e_57, hw⟩ := hw
    refine v_callV q413 q414 q415 q108 q416 (ci := 2) rfl e_57 n_J2_size ⟨Nat.le_of_ble_eq_true rfl, Nat.le_of_ble_eq_true rfl⟩ [] [.int x4] (met_J2_size hw) rfl (Nat.le_of_ble_eq_true rfl) ⟨Nat.le_refl _, Nat.le_refl _⟩ dX0_parted_31 rfl (v_ki (fun z_30 h1 hv => ?_))
    clear hw
    obtain ⟨e9, hw⟩ := hv
    refine v_heap e9 ?_
    clear e9
    obtain ⟨hw_33, hw_34⟩ := hw
    refine v_icmp_ge (tgt := 98) dX0_parted_34 (by decide) (fun c_31 => ?_) (fun c_32 => ?_)
    · have hw := hw_33 c_31
      refine v_iload_n (q := 3) dX0_parted_98 rfl rfl ?_
      exact v_iret dX0_parted_99 rfl ⟨_, rfl, hw⟩
    · have hw := hw_34 c_32
      refine v_aload_n (q := 0) dX0_parted_37 rfl rfl ?_
      obtain ⟨fs_35, r_38, e_36, e_37, hw⟩ := hw
      refine v_get in_X0 (ci := 0) rfl 1 (Nat.le_of_ble_eq_true rfl) q319 rfl dX0_parted_38 e_36 e_37 ?_
      obtain ⟨a_39, ea_39, hw⟩ := hw
      subst ea_39
      obtain ⟨fs_40, r_43, e_41, e_42, hw⟩ := hw
      refine v_getN in_X1 (ci := 1) rfl 7 (Nat.le_of_ble_eq_true rfl) q234 rfl dX0_parted_41 e_41 e_42 ?_
      refine v_iload (q := 4) dX0_parted_44 rfl ?_
      obtain ⟨a_44, ea_44, hw⟩ := hw
      subst ea_44
      obtain ⟨fs_54, e_55, hw⟩ := hw
      refine v_callV q577 q578 q579 q108 q580 (ci := 2) rfl e_55 n_J2_get ⟨Nat.le_of_ble_eq_true rfl, Nat.le_of_ble_eq_true rfl⟩ [.int x4] [] (met_J2_get hw) rfl (Nat.zero_le _) ⟨Nat.le_refl _, Nat.le_refl _⟩ dX0_parted_46 rfl (v_kq (fun r_45 h1 hv => ?_))
      clear hw
      obtain ⟨e9, hw⟩ := hv
      refine v_heap e9 ?_
      clear e9
      obtain ⟨a_46, ea_46, hw⟩ := hw
      subst ea_46
      obtain ⟨fs_47, e_48, hw⟩ := hw
      refine v_cast (ci := 23) rfl q1244 dX0_parted_49 e_48 ?_
      refine v_astore (lv1 := [(5, va_rf (some a_46)), (0, va_rf (some b0)), (1, .int x1), (2, .int x2), (3, .int x3), (4, .int x4)]) dX0_parted_52 (Nat.le_of_ble_eq_true rfl) rfl ?_
      refine v_aload (q := 0) dX0_parted_54 rfl ?_
      refine v_iload_n (q := 2) dX0_parted_56 rfl rfl ?_
      refine v_callS q1296 q1297 q104 q1298 n_X0_saidTo ⟨Nat.le_of_ble_eq_true rfl, Nat.le_of_ble_eq_true rfl⟩ [va_rf (some a_46), .int x1] [] (met_X0_saidTo hw) rfl (Nat.zero_le _) ⟨Nat.le_refl _, Nat.le_refl _⟩ dX0_parted_57 rfl (v_ki (fun z_49 h1 hv => ?_))
      clear hw
      obtain ⟨e9, hw⟩ := hv
      refine v_heap e9 ?_
      clear e9
      refine v_iload_n (q := 3) dX0_parted_60 rfl rfl ?_
      obtain ⟨hw_52, hw_53⟩ := hw
      refine v_if_eq (tgt := 68) dX0_parted_61 (by decide) (fun c_50 => ?_) (fun c_51 => ?_)
      · have hw := hw_52 c_50
        refine v_iconst dX0_parted_68 ic_0 ?_
        refine v_sub [1, 2, 3, 4, 5, 0] rfl ?_
        exact b_X0_parted_69 (fun q0 q1 q2 z => ih q0 q1 q2 z) x3 x4 (some a_46) (nI 0) z_49 h hw
      · have hw := hw_53 c_51
        refine v_iconst dX0_parted_64 ic_1 ?_
        refine v_goto (tgt := 69) dX0_parted_65 (by decide) ?_
        refine v_sub [1, 2, 3, 4, 5, 0] rfl ?_
        exact b_X0_parted_69 (fun q0 q1 q2 z => ih q0 q1 q2 z) x3 x4 (some a_46) (nI 1) z_49 h hw
theorem e_X0_parted {post : (Int32) → (AH) → Prop}   {b0 : Nat} {x1 : Int32} {x2 : Int32} {h : AH}  (hw : w_X0_parted post  b0 x1 x2 h) : VV l E X cX0_parted RX0 "parted" 6 r_X0_parted (some .int) (vpi (fun (r : Int32) (h' : AH) => post r h')) h 0 0 0 [(0, va_rf (some b0)), (1, .int x1), (2, .int x2)] [] := by
  refine v_iload_n (q := 1) dX0_parted_0 rfl rfl ?_
  refine v_i2l dX0_parted_1 ?_
  refine v_lconst (v := lN 0) dX0_parted_2 rfl ?_
  refine v_lconst (v := lN 1) dX0_parted_3 rfl ?_
  refine v_callS q393 q394 q104 q395 n_X0_in ⟨Nat.le_of_ble_eq_true rfl, Nat.le_of_ble_eq_true rfl⟩ [.long ((x1).toInt64), .long (lN 0), .long (lN 1)] [] (met_X0_in hw) rfl (Nat.zero_le _) ⟨Nat.le_refl _, Nat.le_refl _⟩ dX0_parted_4 rfl (v_ki (fun z_58 h1 hv => ?_))
  clear hw
  obtain ⟨e9, hw⟩ := hv
  refine v_heap e9 ?_
  clear e9
  obtain ⟨hw_61, hw_62⟩ := hw
  refine v_if_ne (tgt := 17) dX0_parted_7 (by decide) (fun c_59 => ?_) (fun c_60 => ?_)
  · have hw := hw_61 c_59
    refine v_iconst dX0_parted_17 ic_0 ?_
    refine v_istore_n (lv1 := [(3, .int (nI 0)), (0, va_rf (some b0)), (1, .int x1), (2, .int x2)]) dX0_parted_18 rfl (Nat.le_of_ble_eq_true rfl) rfl ?_
    refine v_iconst dX0_parted_19 ic_0 ?_
    refine v_istore (lv1 := [(4, .int (nI 0)), (3, .int (nI 0)), (0, va_rf (some b0)), (1, .int x1), (2, .int x2)]) dX0_parted_20 (Nat.le_of_ble_eq_true rfl) rfl ?_
    obtain ⟨n_63, hw⟩ := hw
    refine v_sub [2, 3, 4, 1, 0] rfl ?_
    exact b_X0_parted_22 n_63 (nI 0) (nI 0) h hw
  · have hw := hw_62 c_60
    refine v_aload_n (q := 0) dX0_parted_10 rfl rfl ?_
    refine v_bipush dX0_parted_11 bp_m2 ?_
    obtain ⟨fs_66, e_67, hw⟩ := hw
    refine v_callV q396 q398 qs0 q104 q399 (ci := 0) rfl e_67 n_X0_refuse ⟨Nat.le_of_ble_eq_true rfl, Nat.le_of_ble_eq_true rfl⟩ [.int (-2)] [] (met_X0_refuse hw) rfl (Nat.zero_le _) ⟨Nat.le_refl _, Nat.le_refl _⟩ dX0_parted_13 rfl (v_ki (fun z_64 h_65 hv => ?_))
    clear hw
    have hw := hv
    clear hv
    exact v_iret dX0_parted_16 rfl ⟨_, rfl, hw⟩
theorem met_X0_parted {post : (Int32) → (AH) → Prop}   {b0 : Nat} {x1 : Int32} {x2 : Int32} {h : AH}  (hw : w_X0_parted post  b0 x1 x2 h) : Mt l E yX0_parted (ws_ yX0_parted cX0_parted 6 (some .int)) r_X0_parted [va_rf (some b0), .int x1, .int x2] h (vpi (fun (r : Int32) (h' : AH) => post r h')) := v_entry (by decide +kernel) (Nat.le_of_ble_eq_true rfl) rfl (fun _ => e_X0_parted hw)
/-! X0_muddled -/
abbrev r_X0_muddled : Room := { frames := 5, cells := 0, slots := 0, locals := 123 }
theorem n_X0_muddled : vdn yX0_muddled 1 := ⟨by decide +kernel, by decide +kernel, by decide +kernel⟩
def w_X0_muddled_102 (post : (Int32) → (AH) → Prop) (k4 : (Int32) → (Int32) → (AH) → Prop) (b0 : Nat) (x1 : Int32) (x2 : Int32) (x3 : Int32) (h : AH) : Prop :=
 (∀ z_1 : Int32, z_1 = x3 + (nI 1) → (k4 x2 z_1 h))
def w_X0_muddled_4 (post : (Int32) → (AH) → Prop) (b0 : Nat) (x1 : Int32) : Nat → (Int32) → (Int32) → (AH) → Prop
 | 0, _, _, _ => False
 | n0 + 1, x2, x3, h =>
 (∃ (fs_2 : List Value) (r_5 : Option Nat), h b0 = some (.inr (0, fs_2)) ∧ fs_2[1]? = some (va_rf r_5) ∧ (∃ a_6 : Nat, r_5 = some a_6 ∧ (∃ (fs_7 : List Value) (r_10 : Option Nat), h a_6 = some (.inr (1, fs_7)) ∧ fs_7[7]? = some (va_rf r_10) ∧ (∃ a_11 : Nat, r_10 = some a_11 ∧ (∃ fs_101 : List Value, h a_11 = some (.inr (2, fs_101)) ∧ (w_J2_size (fun (z_12 : Int32) => ((z_12 ≤ x3 → ((¬ x1 = (-1) → (post (-1) h)) ∧ (x1 = (-1) → (post x2 h)))) ∧ (¬ z_12 ≤ x3 → (∃ (fs_21 : List Value) (r_24 : Option Nat), h b0 = some (.inr (0, fs_21)) ∧ fs_21[1]? = some (va_rf r_24) ∧ (∃ a_25 : Nat, r_24 = some a_25 ∧ (∃ (fs_26 : List Value) (r_29 : Option Nat), h a_25 = some (.inr (1, fs_26)) ∧ fs_26[7]? = some (va_rf r_29) ∧ (∃ a_30 : Nat, r_29 = some a_30 ∧ (∃ fs_99 : List Value, h a_30 = some (.inr (2, fs_99)) ∧ (w_J2_get (fun (r_31 : Option Nat) => (∃ a_32 : Nat, r_31 = some a_32 ∧ (∃ fs_33 : List Value, h a_32 = some (.inr (23, fs_33)) ∧ (∃ (fs_35 : List Value) (z_38 : Int32), h a_32 = some (.inr (23, fs_35)) ∧ fs_35[4]? = some (.int z_38) ∧ ((¬ z_38 = (nI 1) → (w_X0_muddled_102 post (fun (q0 : Int32) (q1 : Int32) (q2 : AH) => w_X0_muddled_4 post b0 x1 n0 q0 q1 q2) b0 x1 x2 x3 h)) ∧ (z_38 = (nI 1) → (∃ (fs_43 : List Value) (r_46 : Option Nat), h a_32 = some (.inr (23, fs_43)) ∧ fs_43[5]? = some (va_rf r_46) ∧ ((r_46 = none → (w_X0_muddled_102 post (fun (q0 : Int32) (q1 : Int32) (q2 : AH) => w_X0_muddled_4 post b0 x1 n0 q0 q1 q2) b0 x1 x2 x3 h)) ∧ (∀ a_48 : Nat, r_46 = some a_48 → (∃ (fs_52 : List Value) (r_55 : Option Nat), h a_32 = some (.inr (23, fs_52)) ∧ fs_52[5]? = some (va_rf r_55) ∧ (∃ fs_97 : List Value, h b0 = some (.inr (0, fs_97)) ∧ (w_X0_toSongs (fun (z_56 : Int32) (h_57 : AH) => (∃ (fs_58 : List Value) (r_61 : Option Nat), h_57 b0 = some (.inr (0, fs_58)) ∧ fs_58[1]? = some (va_rf r_61) ∧ (∃ a_62 : Nat, r_61 = some a_62 ∧ (∃ (fs_63 : List Value) (z_66 : Int32), h_57 a_62 = some (.inr (1, fs_63)) ∧ fs_63[1]? = some (.int z_66) ∧ ((z_56 < z_66 → (w_X0_muddled_102 post (fun (q0 : Int32) (q1 : Int32) (q2 : AH) => w_X0_muddled_4 post b0 x1 n0 q0 q1 q2) b0 x1 x2 x3 h_57)) ∧ (¬ z_56 < z_66 → (∃ (fs_71 : List Value) (r_74 : Option Nat), h_57 a_32 = some (.inr (23, fs_71)) ∧ fs_71[5]? = some (va_rf r_74) ∧ (∃ fs_95 : List Value, h_57 b0 = some (.inr (0, fs_95)) ∧ (w_X0_toPrint (fun (z_75 : Int32) (h_76 : AH) => (∃ (fs_77 : List Value) (r_80 : Option Nat), h_76 b0 = some (.inr (0, fs_77)) ∧ fs_77[1]? = some (va_rf r_80) ∧ (∃ a_81 : Nat, r_80 = some a_81 ∧ (∃ (fs_82 : List Value) (z_85 : Int32), h_76 a_81 = some (.inr (1, fs_82)) ∧ fs_82[1]? = some (.int z_85) ∧ ((z_75 < z_85 → ((¬ x2 = x1 → (∀ z_94 : Int32, z_94 = x2 + (nI 1) → (w_X0_muddled_102 post (fun (q0 : Int32) (q1 : Int32) (q2 : AH) => w_X0_muddled_4 post b0 x1 n0 q0 q1 q2) b0 x1 z_94 x3 h_76))) ∧ (x2 = x1 → (post x3 h_76)))) ∧ (¬ z_75 < z_85 → (w_X0_muddled_102 post (fun (q0 : Int32) (q1 : Int32) (q2 : AH) => w_X0_muddled_4 post b0 x1 n0 q0 q1 q2) b0 x1 x2 x3 h_76))))))) b0 r_74 h_57))))))))) b0 r_55 h)))))))))))) a_30 x3 h))))))))) a_11 h))))))
def w_X0_muddled (post : (Int32) → (AH) → Prop) (b0 : Nat) (x1 : Int32) (h : AH) : Prop :=
 (∃ n1 : Nat, (w_X0_muddled_4 post b0 x1 n1 (nI 0) (nI 0) h))
theorem b_X0_muddled_102 {post : (Int32) → (AH) → Prop}   {b0 : Nat} {x1 : Int32} {k4 : (Int32) → (Int32) → (AH) → Prop}  (hk4 : ∀ (x2 : Int32) (x3 : Int32) (h : AH), k4 x2 x3 h → VV l E X cX0_muddled RX0 "muddled" 5 r_X0_muddled (some .int) (vpi (fun (r : Int32) (h' : AH) => post r h')) h 0 0 4 [(0, va_rf (some b0)), (1, .int x1), (2, .int x2), (3, .int x3)] []) (x2 : Int32) (x3 : Int32) (h : AH) (hw : w_X0_muddled_102 post k4 b0 x1 x2 x3 h) : VV l E X cX0_muddled RX0 "muddled" 5 r_X0_muddled (some .int) (vpi (fun (r : Int32) (h' : AH) => post r h')) h 0 0 102 [(0, va_rf (some b0)), (1, .int x1), (2, .int x2), (3, .int x3)] [] := by
  obtain ⟨z_1, e_1⟩ : ∃ z9 : Int32, z9 = x3 + (nI 1) := ⟨_, rfl⟩
  replace hw := hw z_1 e_1
  refine v_iinc (q := 3) (v := z_1) (lv1 := [(3, .int z_1), (0, va_rf (some b0)), (1, .int x1), (2, .int x2)]) dX0_muddled_102 rfl (by rw [e_1, ic_1]) (Nat.le_of_ble_eq_true rfl) rfl ?_
  refine v_goto (tgt := 4) dX0_muddled_105 (by decide) ?_
  refine v_sub [1, 2, 3, 0] rfl ?_
  exact hk4 x2 z_1 h hw
theorem b_X0_muddled_4 {post : (Int32) → (AH) → Prop}   {b0 : Nat} {x1 : Int32}    : ∀ (n0 : Nat) (x2 : Int32) (x3 : Int32) (h : AH), w_X0_muddled_4 post b0 x1 n0 x2 x3 h → VV l E X cX0_muddled RX0 "muddled" 5 r_X0_muddled (some .int) (vpi (fun (r : Int32) (h' : AH) => post r h')) h 0 0 4 [(0, va_rf (some b0)), (1, .int x1), (2, .int x2), (3, .int x3)] [] := by
  intro n0
  induction n0 with
  | zero =>
    intro x2 x3 h hw
    exact hw.elim
  | succ n0 ih =>
    intro x2 x3 h hw
    refine v_iload_n (q := 3) dX0_muddled_4 rfl rfl ?_
    refine v_aload_n (q := 0) dX0_muddled_5 rfl rfl ?_
    obtain ⟨fs_2, r_5, e_3, e_4, hw⟩ := hw
    refine v_get in_X0 (ci := 0) rfl 1 (Nat.le_of_ble_eq_true rfl) q319 rfl dX0_muddled_6 e_3 e_4 ?_
    obtain ⟨a_6, ea_6, hw⟩ := hw
    subst ea_6
    obtain ⟨fs_7, r_10, e_8, e_9, hw⟩ := hw
    refine v_getN in_X1 (ci := 1) rfl 7 (Nat.le_of_ble_eq_true rfl) q234 rfl dX0_muddled_9 e_8 e_9 ?_
    obtain ⟨a_11, ea_11, hw⟩ := hw
    subst ea_11
    obtain ⟨fs_101, e_102, hw⟩ := hw
    refine v_callV q413 q414 q415 q108 q416 (ci := 2) rfl e_102 n_J2_size ⟨Nat.le_of_ble_eq_true rfl, Nat.le_of_ble_eq_true rfl⟩ [] [.int x3] (met_J2_size hw) rfl (Nat.le_of_ble_eq_true rfl) ⟨Nat.le_refl _, Nat.le_refl _⟩ dX0_muddled_12 rfl (v_ki (fun z_12 h1 hv => ?_))
    clear hw
    obtain ⟨e9, hw⟩ := hv
    refine v_heap e9 ?_
    clear e9
    obtain ⟨hw_15, hw_16⟩ := hw
    refine v_icmp_ge (tgt := 108) dX0_muddled_15 (by decide) (fun c_13 => ?_) (fun c_14 => ?_)
    · have hw := hw_15 c_13
      refine v_iload_n (q := 1) dX0_muddled_108 rfl rfl ?_
      refine v_iconst dX0_muddled_109 ic_m1 ?_
      obtain ⟨hw_19, hw_20⟩ := hw
      refine v_icmp_ne (tgt := 117) dX0_muddled_110 (by decide) (fun c_17 => ?_) (fun c_18 => ?_)
      · have hw := hw_19 c_17
        refine v_iconst dX0_muddled_117 ic_m1 ?_
        exact v_iret dX0_muddled_118 rfl ⟨_, rfl, hw⟩
      · have hw := hw_20 c_18
        refine v_iload_n (q := 2) dX0_muddled_113 rfl rfl ?_
        refine v_goto (tgt := 118) dX0_muddled_114 (by decide) ?_
        exact v_iret dX0_muddled_118 rfl ⟨_, rfl, hw⟩
    · have hw := hw_16 c_14
      refine v_aload_n (q := 0) dX0_muddled_18 rfl rfl ?_
      obtain ⟨fs_21, r_24, e_22, e_23, hw⟩ := hw
      refine v_get in_X0 (ci := 0) rfl 1 (Nat.le_of_ble_eq_true rfl) q319 rfl dX0_muddled_19 e_22 e_23 ?_
      obtain ⟨a_25, ea_25, hw⟩ := hw
      subst ea_25
      obtain ⟨fs_26, r_29, e_27, e_28, hw⟩ := hw
      refine v_getN in_X1 (ci := 1) rfl 7 (Nat.le_of_ble_eq_true rfl) q234 rfl dX0_muddled_22 e_27 e_28 ?_
      refine v_iload_n (q := 3) dX0_muddled_25 rfl rfl ?_
      obtain ⟨a_30, ea_30, hw⟩ := hw
      subst ea_30
      obtain ⟨fs_99, e_100, hw⟩ := hw
      refine v_callV q577 q578 q579 q108 q580 (ci := 2) rfl e_100 n_J2_get ⟨Nat.le_of_ble_eq_true rfl, Nat.le_of_ble_eq_true rfl⟩ [.int x3] [] (met_J2_get hw) rfl (Nat.zero_le _) ⟨Nat.le_refl _, Nat.le_refl _⟩ dX0_muddled_26 rfl (v_kq (fun r_31 h1 hv => ?_))
      clear hw
      obtain ⟨e9, hw⟩ := hv
      refine v_heap e9 ?_
      clear e9
      obtain ⟨a_32, ea_32, hw⟩ := hw
      subst ea_32
      obtain ⟨fs_33, e_34, hw⟩ := hw
      refine v_cast (ci := 23) rfl q1244 dX0_muddled_29 e_34 ?_
      refine v_astore (lv1 := [(4, va_rf (some a_32)), (0, va_rf (some b0)), (1, .int x1), (2, .int x2), (3, .int x3)]) dX0_muddled_32 (Nat.le_of_ble_eq_true rfl) rfl ?_
      refine v_aload (q := 0) dX0_muddled_34 rfl ?_
      obtain ⟨fs_35, z_38, e_36, e_37, hw⟩ := hw
      refine v_getN in_X23 (ci := 23) rfl 4 (Nat.le_of_ble_eq_true rfl) q1259 rfl dX0_muddled_36 e_36 e_37 ?_
      refine v_iconst dX0_muddled_39 ic_1 ?_
      obtain ⟨hw_41, hw_42⟩ := hw
      refine v_icmp_ne (tgt := 102) dX0_muddled_40 (by decide) (fun c_39 => ?_) (fun c_40 => ?_)
      · have hw := hw_41 c_39
        refine v_sub [1, 2, 3, 4] rfl ?_
        exact b_X0_muddled_102 (fun q0 q1 q2 z => ih q0 q1 q2 z) x2 x3 h hw
      · have hw := hw_42 c_40
        refine v_aload (q := 0) dX0_muddled_43 rfl ?_
        obtain ⟨fs_43, r_46, e_44, e_45, hw⟩ := hw
        refine v_getN in_X23 (ci := 23) rfl 5 (Nat.le_of_ble_eq_true rfl) q1261 rfl dX0_muddled_45 e_44 e_45 ?_
        obtain ⟨hw_50, hw_51⟩ := hw
        refine v_ifnull (tgt := 102) dX0_muddled_48 (by decide) (fun c_47 => ?_) (fun a_48 c_49 => ?_)
        · have hw := hw_50 c_47
          subst c_47
          refine v_sub [1, 2, 3, 4] rfl ?_
          exact b_X0_muddled_102 (fun q0 q1 q2 z => ih q0 q1 q2 z) x2 x3 h hw
        · have hw := hw_51 a_48 c_49
          subst c_49
          refine v_aload_n (q := 1) dX0_muddled_51 rfl rfl ?_
          refine v_aload (q := 0) dX0_muddled_52 rfl ?_
          obtain ⟨fs_52, r_55, e_53, e_54, hw⟩ := hw
          refine v_getN in_X23 (ci := 23) rfl 5 (Nat.le_of_ble_eq_true rfl) q1261 rfl dX0_muddled_54 e_53 e_54 ?_
          obtain ⟨fs_97, e_98, hw⟩ := hw
          refine v_callV q1136 q1138 qs38 q104 q1139 (ci := 0) rfl e_98 n_X0_toSongs ⟨Nat.le_of_ble_eq_true rfl, Nat.le_of_ble_eq_true rfl⟩ [va_rf r_55] [] (met_X0_toSongs hw) rfl (Nat.zero_le _) ⟨Nat.le_refl _, Nat.le_refl _⟩ dX0_muddled_57 rfl (v_ki (fun z_56 h_57 hv => ?_))
          clear hw
          have hw := hv
          clear hv
          refine v_aload_n (q := 1) dX0_muddled_60 rfl rfl ?_
          obtain ⟨fs_58, r_61, e_59, e_60, hw⟩ := hw
          refine v_get in_X0 (ci := 0) rfl 1 (Nat.le_of_ble_eq_true rfl) q319 rfl dX0_muddled_61 e_59 e_60 ?_
          obtain ⟨a_62, ea_62, hw⟩ := hw
          subst ea_62
          obtain ⟨fs_63, z_66, e_64, e_65, hw⟩ := hw
          refine v_getN in_X1 (ci := 1) rfl 1 (Nat.le_of_ble_eq_true rfl) q222 rfl dX0_muddled_64 e_64 e_65 ?_
          obtain ⟨hw_69, hw_70⟩ := hw
          refine v_icmp_lt (tgt := 102) dX0_muddled_67 (by decide) (fun c_67 => ?_) (fun c_68 => ?_)
          · have hw := hw_69 c_67
            refine v_sub [1, 2, 3, 4] rfl ?_
            exact b_X0_muddled_102 (fun q0 q1 q2 z => ih q0 q1 q2 z) x2 x3 h_57 hw
          · have hw := hw_70 c_68
            refine v_aload_n (q := 1) dX0_muddled_70 rfl rfl ?_
            refine v_aload (q := 0) dX0_muddled_71 rfl ?_
            obtain ⟨fs_71, r_74, e_72, e_73, hw⟩ := hw
            refine v_getN in_X23 (ci := 23) rfl 5 (Nat.le_of_ble_eq_true rfl) q1261 rfl dX0_muddled_73 e_72 e_73 ?_
            obtain ⟨fs_95, e_96, hw⟩ := hw
            refine v_callV q1140 q1142 qs39 q104 q1143 (ci := 0) rfl e_96 n_X0_toPrint ⟨Nat.le_of_ble_eq_true rfl, Nat.le_of_ble_eq_true rfl⟩ [va_rf r_74] [] (met_X0_toPrint hw) rfl (Nat.zero_le _) ⟨Nat.le_refl _, Nat.le_refl _⟩ dX0_muddled_76 rfl (v_ki (fun z_75 h_76 hv => ?_))
            clear hw
            have hw := hv
            clear hv
            refine v_aload_n (q := 1) dX0_muddled_79 rfl rfl ?_
            obtain ⟨fs_77, r_80, e_78, e_79, hw⟩ := hw
            refine v_get in_X0 (ci := 0) rfl 1 (Nat.le_of_ble_eq_true rfl) q319 rfl dX0_muddled_80 e_78 e_79 ?_
            obtain ⟨a_81, ea_81, hw⟩ := hw
            subst ea_81
            obtain ⟨fs_82, z_85, e_83, e_84, hw⟩ := hw
            refine v_getN in_X1 (ci := 1) rfl 1 (Nat.le_of_ble_eq_true rfl) q222 rfl dX0_muddled_83 e_83 e_84 ?_
            obtain ⟨hw_88, hw_89⟩ := hw
            refine v_icmp_lt (tgt := 92) dX0_muddled_86 (by decide) (fun c_86 => ?_) (fun c_87 => ?_)
            · have hw := hw_88 c_86
              refine v_iload_n (q := 3) dX0_muddled_92 rfl rfl ?_
              refine v_iload_n (q := 2) dX0_muddled_93 rfl rfl ?_
              obtain ⟨hw_92, hw_93⟩ := hw
              refine v_icmp_ne (tgt := 99) dX0_muddled_94 (by decide) (fun c_90 => ?_) (fun c_91 => ?_)
              · have hw := hw_92 c_90
                obtain ⟨z_94, e_94⟩ : ∃ z9 : Int32, z9 = x2 + (nI 1) := ⟨_, rfl⟩
                replace hw := hw z_94 e_94
                refine v_iinc (q := 3) (v := z_94) (lv1 := [(2, .int z_94), (4, va_rf (some a_32)), (0, va_rf (some b0)), (1, .int x1), (3, .int x3)]) dX0_muddled_99 rfl (by rw [e_94, ic_1]) (Nat.le_of_ble_eq_true rfl) rfl ?_
                refine v_sub [2, 3, 0, 4] rfl ?_
                exact b_X0_muddled_102 (fun q0 q1 q2 z => ih q0 q1 q2 z) z_94 x3 h_76 hw
              · have hw := hw_93 c_91
                refine v_iload_n (q := 4) dX0_muddled_97 rfl rfl ?_
                exact v_iret dX0_muddled_98 rfl ⟨_, rfl, hw⟩
            · have hw := hw_89 c_87
              refine v_goto (tgt := 102) dX0_muddled_89 (by decide) ?_
              refine v_sub [1, 2, 3, 4] rfl ?_
              exact b_X0_muddled_102 (fun q0 q1 q2 z => ih q0 q1 q2 z) x2 x3 h_76 hw
theorem e_X0_muddled {post : (Int32) → (AH) → Prop}   {b0 : Nat} {x1 : Int32} {h : AH}  (hw : w_X0_muddled post  b0 x1 h) : VV l E X cX0_muddled RX0 "muddled" 5 r_X0_muddled (some .int) (vpi (fun (r : Int32) (h' : AH) => post r h')) h 0 0 0 [(0, va_rf (some b0)), (1, .int x1)] [] := by
  refine v_iconst dX0_muddled_0 ic_0 ?_
  refine v_istore_n (lv1 := [(2, .int (nI 0)), (0, va_rf (some b0)), (1, .int x1)]) dX0_muddled_1 rfl (Nat.le_of_ble_eq_true rfl) rfl ?_
  refine v_iconst dX0_muddled_2 ic_0 ?_
  refine v_istore_n (lv1 := [(3, .int (nI 0)), (2, .int (nI 0)), (0, va_rf (some b0)), (1, .int x1)]) dX0_muddled_3 rfl (Nat.le_of_ble_eq_true rfl) rfl ?_
  obtain ⟨n_103, hw⟩ := hw
  refine v_sub [2, 3, 1, 0] rfl ?_
  exact b_X0_muddled_4 n_103 (nI 0) (nI 0) h hw
theorem met_X0_muddled {post : (Int32) → (AH) → Prop}   {b0 : Nat} {x1 : Int32} {h : AH}  (hw : w_X0_muddled post  b0 x1 h) : Mt l E yX0_muddled (ws_ yX0_muddled cX0_muddled 5 (some .int)) r_X0_muddled [va_rf (some b0), .int x1] h (vpi (fun (r : Int32) (h' : AH) => post r h')) := v_entry (by decide +kernel) (Nat.le_of_ble_eq_true rfl) rfl (fun _ => e_X0_muddled hw)
end WALK
