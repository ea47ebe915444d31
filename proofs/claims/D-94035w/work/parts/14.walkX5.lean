set_option maxRecDepth 100000
section WALK
variable {l : Launch} {E : VE} {X : VX} {b : Nat → Nat}
/-! X0_glen -/
abbrev r_X0_glen : Room := { frames := 6, cells := 0, slots := 0, locals := 144 }
theorem n_X0_glen : vdn yX0_glen 2 := ⟨by decide +kernel, by decide +kernel, by decide +kernel⟩
def w_X0_glen_19 (post : (Int32) → (AH) → Prop) (b0 : Nat) (x1 : Int32) (x2 : Int32) (h : AH) : Prop :=
 (∃ fs_3 : List Value, h b0 = some (.inr (0, fs_3)) ∧ (w_X0_refuse (fun (z_1 : Int32) (h_2 : AH) => (post z_1 h_2)) b0 (-2) h))
def w_X0_glen_117 (post : (Int32) → (AH) → Prop) (k31 : (Int32) → (Int32) → (AH) → Prop) (b0 : Nat) (x1 : Int32) (x2 : Int32) (x3 : Int32) (x4 : Int32) (h : AH) : Prop :=
 (∀ z_5 : Int32, z_5 = x4 + (nI 1) → (k31 x3 z_5 h))
def w_X0_glen_114 (post : (Int32) → (AH) → Prop) (k31 : (Int32) → (Int32) → (AH) → Prop) (b0 : Nat) (x1 : Int32) (x2 : Int32) (x3 : Int32) (x4 : Int32) (h : AH) : Prop :=
 (∀ z_6 : Int32, z_6 = x3 + (nI 1) → (w_X0_glen_117 post k31 b0 x1 x2 z_6 x4 h))
def w_X0_glen_90 (post : (Int32) → (AH) → Prop) (k31 : (Int32) → (Int32) → (AH) → Prop) (b0 : Nat) (x1 : Int32) (x2 : Int32) (x3 : Int32) (x4 : Int32) (x5 : Option Nat) (h : AH) : Prop :=
 (w_X0_in (fun (z_7 : Int32) => ((z_7 = 0 → (w_X0_glen_117 post k31 b0 x1 x2 x3 x4 h)) ∧ (¬ z_7 = 0 → (w_X0_saidTo (fun (z_12 : Int32) => ((¬ z_12 = (nI 1) → (w_X0_glen_117 post k31 b0 x1 x2 x3 x4 h)) ∧ (z_12 = (nI 1) → (w_X0_glen_114 post k31 b0 x1 x2 x3 x4 h)))) x5 (x2 - (nI 1)) h)))) ((x2).toInt64) (lN 1) (lN 2))
def w_X0_glen_31 (post : (Int32) → (AH) → Prop) (b0 : Nat) (x1 : Int32) (x2 : Int32) : Nat → (Int32) → (Int32) → (AH) → Prop
 | 0, _, _, _ => False
 | n0 + 1, x3, x4, h =>
 (∃ (fs_17 : List Value) (r_20 : Option Nat), h b0 = some (.inr (0, fs_17)) ∧ fs_17[1]? = some (va_rf r_20) ∧ (∃ a_21 : Nat, r_20 = some a_21 ∧ (∃ (fs_22 : List Value) (r_25 : Option Nat), h a_21 = some (.inr (1, fs_22)) ∧ fs_22[7]? = some (va_rf r_25) ∧ (∃ a_26 : Nat, r_25 = some a_26 ∧ (∃ fs_72 : List Value, h a_26 = some (.inr (2, fs_72)) ∧ (w_J2_size (fun (z_27 : Int32) => ((z_27 ≤ x4 → (post x3 h)) ∧ (¬ z_27 ≤ x4 → (∃ (fs_32 : List Value) (r_35 : Option Nat), h b0 = some (.inr (0, fs_32)) ∧ fs_32[1]? = some (va_rf r_35) ∧ (∃ a_36 : Nat, r_35 = some a_36 ∧ (∃ (fs_37 : List Value) (r_40 : Option Nat), h a_36 = some (.inr (1, fs_37)) ∧ fs_37[7]? = some (va_rf r_40) ∧ (∃ a_41 : Nat, r_40 = some a_41 ∧ (∃ fs_70 : List Value, h a_41 = some (.inr (2, fs_70)) ∧ (w_J2_get (fun (r_42 : Option Nat) => (∃ a_43 : Nat, r_42 = some a_43 ∧ (∃ fs_44 : List Value, h a_43 = some (.inr (23, fs_44)) ∧ (∃ (fs_46 : List Value) (z_49 : Int32), h a_43 = some (.inr (23, fs_46)) ∧ fs_46[0]? = some (.int z_49) ∧ ((¬ z_49 = x1 → (w_X0_glen_117 post (fun (q0 : Int32) (q1 : Int32) (q2 : AH) => w_X0_glen_31 post b0 x1 x2 n0 q0 q1 q2) b0 x1 x2 x3 x4 h)) ∧ (z_49 = x1 → ((x2 = 0 → (w_X0_glen_114 post (fun (q0 : Int32) (q1 : Int32) (q2 : AH) => w_X0_glen_31 post b0 x1 x2 n0 q0 q1 q2) b0 x1 x2 x3 x4 h)) ∧ (¬ x2 = 0 → ((¬ x2 = (nI 3) → (w_X0_glen_90 post (fun (q0 : Int32) (q1 : Int32) (q2 : AH) => w_X0_glen_31 post b0 x1 x2 n0 q0 q1 q2) b0 x1 x2 x3 x4 (some a_43) h)) ∧ (x2 = (nI 3) → (∃ fs_68 : List Value, h b0 = some (.inr (0, fs_68)) ∧ (w_X0_isBack (fun (z_62 : Int32) (h_63 : AH) => ((¬ z_62 = 0 → (w_X0_glen_114 post (fun (q0 : Int32) (q1 : Int32) (q2 : AH) => w_X0_glen_31 post b0 x1 x2 n0 q0 q1 q2) b0 x1 x2 x3 x4 h_63)) ∧ (z_62 = 0 → (w_X0_glen_90 post (fun (q0 : Int32) (q1 : Int32) (q2 : AH) => w_X0_glen_31 post b0 x1 x2 n0 q0 q1 q2) b0 x1 x2 x3 x4 (some a_43) h_63)))) b0 (some a_43) h)))))))))))) a_41 x4 h))))))))) a_26 h))))))
def w_X0_glen (post : (Int32) → (AH) → Prop) (b0 : Nat) (x1 : Int32) (x2 : Int32) (h : AH) : Prop :=
 (w_X0_isGlen (fun (z_74 : Int32) => ((z_74 = 0 → (w_X0_glen_19 post b0 x1 x2 h)) ∧ (¬ z_74 = 0 → (w_X0_in (fun (z_79 : Int32) => ((¬ z_79 = 0 → (∃ n1 : Nat, (w_X0_glen_31 post b0 x1 x2 n1 (nI 0) (nI 0) h))) ∧ (z_79 = 0 → (w_X0_glen_19 post b0 x1 x2 h)))) ((x2).toInt64) (lN 0) (lN 3))))) x1)
theorem b_X0_glen_19 {post : (Int32) → (AH) → Prop}   {b0 : Nat} {x1 : Int32} {x2 : Int32}    (h : AH) (hw : w_X0_glen_19 post b0 x1 x2 h) : VV l E X cX0_glen RX0 "glen" 6 r_X0_glen (some .int) (vpi (fun (r : Int32) (h' : AH) => post r h')) h 0 0 19 [(0, va_rf (some b0)), (1, .int x1), (2, .int x2)] [] := by
  refine v_aload_n (q := 0) dX0_glen_19 rfl rfl ?_
  refine v_bipush dX0_glen_20 bp_m2 ?_
  obtain ⟨fs_3, e_4, hw⟩ := hw
  refine v_callV q396 q398 qs0 q104 q399 (ci := 0) rfl e_4 n_X0_refuse ⟨Nat.le_of_ble_eq_true rfl, Nat.le_of_ble_eq_true rfl⟩ [.int (-2)] [] (met_X0_refuse hw) rfl (Nat.zero_le _) ⟨Nat.le_refl _, Nat.le_refl _⟩ dX0_glen_22 rfl (v_ki (fun z_1 h_2 hv => ?_))
  clear hw
  have hw := hv
  clear hv
  exact v_iret dX0_glen_25 rfl ⟨_, rfl, hw⟩
theorem b_X0_glen_117 {post : (Int32) → (AH) → Prop}   {b0 : Nat} {x1 : Int32} {x2 : Int32} {k31 : (Int32) → (Int32) → (AH) → Prop}  (hk31 : ∀ (x3 : Int32) (x4 : Int32) (h : AH), k31 x3 x4 h → VV l E X cX0_glen RX0 "glen" 6 r_X0_glen (some .int) (vpi (fun (r : Int32) (h' : AH) => post r h')) h 0 0 31 [(0, va_rf (some b0)), (1, .int x1), (2, .int x2), (3, .int x3), (4, .int x4)] []) (x3 : Int32) (x4 : Int32) (h : AH) (hw : w_X0_glen_117 post k31 b0 x1 x2 x3 x4 h) : VV l E X cX0_glen RX0 "glen" 6 r_X0_glen (some .int) (vpi (fun (r : Int32) (h' : AH) => post r h')) h 0 0 117 [(0, va_rf (some b0)), (1, .int x1), (2, .int x2), (3, .int x3), (4, .int x4)] [] := by
  obtain ⟨z_5, e_5⟩ : ∃ z9 : Int32, z9 = x4 + (nI 1) := ⟨_, rfl⟩
  replace hw := hw z_5 e_5
  refine v_iinc (q := 4) (v := z_5) (lv1 := [(4, .int z_5), (0, va_rf (some b0)), (1, .int x1), (2, .int x2), (3, .int x3)]) dX0_glen_117 rfl (by rw [e_5, ic_1]) (Nat.le_of_ble_eq_true rfl) rfl ?_
  refine v_goto (tgt := 31) dX0_glen_120 (by decide) ?_
  refine v_sub [1, 2, 3, 4, 0] rfl ?_
  exact hk31 x3 z_5 h hw
theorem b_X0_glen_114 {post : (Int32) → (AH) → Prop}   {b0 : Nat} {x1 : Int32} {x2 : Int32} {k31 : (Int32) → (Int32) → (AH) → Prop}  (hk31 : ∀ (x3 : Int32) (x4 : Int32) (h : AH), k31 x3 x4 h → VV l E X cX0_glen RX0 "glen" 6 r_X0_glen (some .int) (vpi (fun (r : Int32) (h' : AH) => post r h')) h 0 0 31 [(0, va_rf (some b0)), (1, .int x1), (2, .int x2), (3, .int x3), (4, .int x4)] []) (x3 : Int32) (x4 : Int32) (h : AH) (hw : w_X0_glen_114 post k31 b0 x1 x2 x3 x4 h) : VV l E X cX0_glen RX0 "glen" 6 r_X0_glen (some .int) (vpi (fun (r : Int32) (h' : AH) => post r h')) h 0 0 114 [(0, va_rf (some b0)), (1, .int x1), (2, .int x2), (3, .int x3), (4, .int x4)] [] := by
  obtain ⟨z_6, e_6⟩ : ∃ z9 : Int32, z9 = x3 + (nI 1) := ⟨_, rfl⟩
  replace hw := hw z_6 e_6
  refine v_iinc (q := 3) (v := z_6) (lv1 := [(3, .int z_6), (0, va_rf (some b0)), (1, .int x1), (2, .int x2), (4, .int x4)]) dX0_glen_114 rfl (by rw [e_6, ic_1]) (Nat.le_of_ble_eq_true rfl) rfl ?_
  refine v_sub [1, 2, 3, 0, 4] rfl ?_
  exact b_X0_glen_117 hk31 z_6 x4 h hw
theorem b_X0_glen_90 {post : (Int32) → (AH) → Prop}   {b0 : Nat} {x1 : Int32} {x2 : Int32} {k31 : (Int32) → (Int32) → (AH) → Prop}  (hk31 : ∀ (x3 : Int32) (x4 : Int32) (h : AH), k31 x3 x4 h → VV l E X cX0_glen RX0 "glen" 6 r_X0_glen (some .int) (vpi (fun (r : Int32) (h' : AH) => post r h')) h 0 0 31 [(0, va_rf (some b0)), (1, .int x1), (2, .int x2), (3, .int x3), (4, .int x4)] []) (x3 : Int32) (x4 : Int32) (x5 : Option Nat) (h : AH) (hw : w_X0_glen_90 post k31 b0 x1 x2 x3 x4 x5 h) : VV l E X cX0_glen RX0 "glen" 6 r_X0_glen (some .int) (vpi (fun (r : Int32) (h' : AH) => post r h')) h 0 0 90 [(0, va_rf (some b0)), (1, .int x1), (2, .int x2), (3, .int x3), (4, .int x4), (5, va_rf x5)] [] := by
  refine v_iload_n (q := 2) dX0_glen_90 rfl rfl ?_
  refine v_i2l dX0_glen_91 ?_
  refine v_lconst (v := lN 1) dX0_glen_92 rfl ?_
  refine v_ldc2 (v := (lN 2)) dX0_glen_93 q524 ?_
  refine v_callS q393 q394 q104 q395 n_X0_in ⟨Nat.le_of_ble_eq_true rfl, Nat.le_of_ble_eq_true rfl⟩ [.long ((x2).toInt64), .long (lN 1), .long (lN 2)] [] (met_X0_in hw) rfl (Nat.zero_le _) ⟨Nat.le_refl _, Nat.le_refl _⟩ dX0_glen_96 rfl (v_ki (fun z_7 h1 hv => ?_))
  clear hw
  obtain ⟨e9, hw⟩ := hv
  refine v_heap e9 ?_
  clear e9
  obtain ⟨hw_10, hw_11⟩ := hw
  refine v_if_eq (tgt := 117) dX0_glen_99 (by decide) (fun c_8 => ?_) (fun c_9 => ?_)
  · have hw := hw_10 c_8
    refine v_sub [0, 1, 2, 3, 4] rfl ?_
    exact b_X0_glen_117 hk31 x3 x4 h hw
  · have hw := hw_11 c_9
    refine v_aload (q := 5) dX0_glen_102 rfl ?_
    refine v_iload_n (q := 2) dX0_glen_104 rfl rfl ?_
    refine v_iconst dX0_glen_105 ic_1 ?_
    refine v_isub dX0_glen_106 ?_
    refine v_callS q1296 q1297 q104 q1298 n_X0_saidTo ⟨Nat.le_of_ble_eq_true rfl, Nat.le_of_ble_eq_true rfl⟩ [va_rf x5, .int (x2 - (nI 1))] [] (met_X0_saidTo hw) rfl (Nat.zero_le _) ⟨Nat.le_refl _, Nat.le_refl _⟩ dX0_glen_107 rfl (v_ki (fun z_12 h1 hv => ?_))
    clear hw
    obtain ⟨e9, hw⟩ := hv
    refine v_heap e9 ?_
    clear e9
    refine v_iconst dX0_glen_110 ic_1 ?_
    obtain ⟨hw_15, hw_16⟩ := hw
    refine v_icmp_ne (tgt := 117) dX0_glen_111 (by decide) (fun c_13 => ?_) (fun c_14 => ?_)
    · have hw := hw_15 c_13
      refine v_sub [0, 1, 2, 3, 4] rfl ?_
      exact b_X0_glen_117 hk31 x3 x4 h hw
    · have hw := hw_16 c_14
      refine v_sub [0, 1, 2, 3, 4] rfl ?_
      exact b_X0_glen_114 hk31 x3 x4 h hw
theorem b_X0_glen_31 {post : (Int32) → (AH) → Prop}   {b0 : Nat} {x1 : Int32} {x2 : Int32}    : ∀ (n0 : Nat) (x3 : Int32) (x4 : Int32) (h : AH), w_X0_glen_31 post b0 x1 x2 n0 x3 x4 h → VV l E X cX0_glen RX0 "glen" 6 r_X0_glen (some .int) (vpi (fun (r : Int32) (h' : AH) => post r h')) h 0 0 31 [(0, va_rf (some b0)), (1, .int x1), (2, .int x2), (3, .int x3), (4, .int x4)] [] := by
  intro n0
  induction n0 with
  | zero =>
    intro x3 x4 h hw
    exact hw.elim
  | succ n0 ih =>
    intro x3 x4 h hw
    refine v_iload (q := 4) dX0_glen_31 rfl ?_
    refine v_aload_n (q := 0) dX0_glen_33 rfl rfl ?_
    obtain ⟨fs_17, r_20, e_18, e_19, hw⟩ := hw
    refine v_get in_X0 (ci := 0) rfl 1 (Nat.le_of_ble_eq_true rfl) q319 rfl dX0_glen_34 e_18 e_19 ?_
    obtain ⟨a_21, ea_21, hw⟩ := hw
    subst ea_21
    obtain ⟨fs_22, r_25, e_23, e_24, hw⟩ := hw
    refine v_getN in_X1 (ci := 1) rfl 7 (Nat.le_of_ble_eq_true rfl) q234 rfl dX0_glen_37 e_23 e_24 ?_
    obtain ⟨a_26, ea_26, hw⟩ := hw
    subst ea_26
    obtain ⟨fs_72, e_73, hw⟩ := hw
    refine v_callV q413 q414 q415 q108 q416 (ci := 2) rfl e_73 n_J2_size ⟨Nat.le_of_ble_eq_true rfl, Nat.le_of_ble_eq_true rfl⟩ [] [.int x4] (met_J2_size hw) rfl (Nat.le_of_ble_eq_true rfl) ⟨Nat.le_refl _, Nat.le_refl _⟩ dX0_glen_40 rfl (v_ki (fun z_27 h1 hv => ?_))
    clear hw
    obtain ⟨e9, hw⟩ := hv
    refine v_heap e9 ?_
    clear e9
    obtain ⟨hw_30, hw_31⟩ := hw
    refine v_icmp_ge (tgt := 123) dX0_glen_43 (by decide) (fun c_28 => ?_) (fun c_29 => ?_)
    · have hw := hw_30 c_28
      refine v_iload_n (q := 3) dX0_glen_123 rfl rfl ?_
      exact v_iret dX0_glen_124 rfl ⟨_, rfl, hw⟩
    · have hw := hw_31 c_29
      refine v_aload_n (q := 0) dX0_glen_46 rfl rfl ?_
      obtain ⟨fs_32, r_35, e_33, e_34, hw⟩ := hw
      refine v_get in_X0 (ci := 0) rfl 1 (Nat.le_of_ble_eq_true rfl) q319 rfl dX0_glen_47 e_33 e_34 ?_
      obtain ⟨a_36, ea_36, hw⟩ := hw
      subst ea_36
      obtain ⟨fs_37, r_40, e_38, e_39, hw⟩ := hw
      refine v_getN in_X1 (ci := 1) rfl 7 (Nat.le_of_ble_eq_true rfl) q234 rfl dX0_glen_50 e_38 e_39 ?_
      refine v_iload (q := 4) dX0_glen_53 rfl ?_
      obtain ⟨a_41, ea_41, hw⟩ := hw
      subst ea_41
      obtain ⟨fs_70, e_71, hw⟩ := hw
      refine v_callV q577 q578 q579 q108 q580 (ci := 2) rfl e_71 n_J2_get ⟨Nat.le_of_ble_eq_true rfl, Nat.le_of_ble_eq_true rfl⟩ [.int x4] [] (met_J2_get hw) rfl (Nat.zero_le _) ⟨Nat.le_refl _, Nat.le_refl _⟩ dX0_glen_55 rfl (v_kq (fun r_42 h1 hv => ?_))
      clear hw
      obtain ⟨e9, hw⟩ := hv
      refine v_heap e9 ?_
      clear e9
      obtain ⟨a_43, ea_43, hw⟩ := hw
      subst ea_43
      obtain ⟨fs_44, e_45, hw⟩ := hw
      refine v_cast (ci := 23) rfl q1244 dX0_glen_58 e_45 ?_
      refine v_astore (lv1 := [(5, va_rf (some a_43)), (0, va_rf (some b0)), (1, .int x1), (2, .int x2), (3, .int x3), (4, .int x4)]) dX0_glen_61 (Nat.le_of_ble_eq_true rfl) rfl ?_
      refine v_aload (q := 0) dX0_glen_63 rfl ?_
      obtain ⟨fs_46, z_49, e_47, e_48, hw⟩ := hw
      refine v_getN in_X23 (ci := 23) rfl 0 (Nat.le_of_ble_eq_true rfl) q1251 rfl dX0_glen_65 e_47 e_48 ?_
      refine v_iload_n (q := 2) dX0_glen_68 rfl rfl ?_
      obtain ⟨hw_52, hw_53⟩ := hw
      refine v_icmp_ne (tgt := 117) dX0_glen_69 (by decide) (fun c_50 => ?_) (fun c_51 => ?_)
      · have hw := hw_52 c_50
        refine v_sub [1, 2, 3, 4, 5] rfl ?_
        exact b_X0_glen_117 (fun q0 q1 q2 z => ih q0 q1 q2 z) x3 x4 h hw
      · have hw := hw_53 c_51
        refine v_iload_n (q := 3) dX0_glen_72 rfl rfl ?_
        obtain ⟨hw_56, hw_57⟩ := hw
        refine v_if_eq (tgt := 114) dX0_glen_73 (by decide) (fun c_54 => ?_) (fun c_55 => ?_)
        · have hw := hw_56 c_54
          refine v_sub [1, 2, 3, 4, 5] rfl ?_
          exact b_X0_glen_114 (fun q0 q1 q2 z => ih q0 q1 q2 z) x3 x4 h hw
        · have hw := hw_57 c_55
          refine v_iload_n (q := 3) dX0_glen_76 rfl rfl ?_
          refine v_iconst dX0_glen_77 ic_3 ?_
          obtain ⟨hw_60, hw_61⟩ := hw
          refine v_icmp_ne (tgt := 90) dX0_glen_78 (by decide) (fun c_58 => ?_) (fun c_59 => ?_)
          · have hw := hw_60 c_58
            refine v_sub [1, 2, 3, 4, 5, 0] rfl ?_
            exact b_X0_glen_90 (fun q0 q1 q2 z => ih q0 q1 q2 z) x3 x4 (some a_43) h hw
          · have hw := hw_61 c_59
            refine v_aload_n (q := 1) dX0_glen_81 rfl rfl ?_
            refine v_aload (q := 0) dX0_glen_82 rfl ?_
            obtain ⟨fs_68, e_69, hw⟩ := hw
            refine v_callV q1283 q1285 qs45 q104 q1286 (ci := 0) rfl e_69 n_X0_isBack ⟨Nat.le_of_ble_eq_true rfl, Nat.le_of_ble_eq_true rfl⟩ [va_rf (some a_43)] [] (met_X0_isBack hw) rfl (Nat.zero_le _) ⟨Nat.le_refl _, Nat.le_refl _⟩ dX0_glen_84 rfl (v_ki (fun z_62 h_63 hv => ?_))
            clear hw
            have hw := hv
            clear hv
            obtain ⟨hw_66, hw_67⟩ := hw
            refine v_if_ne (tgt := 114) dX0_glen_87 (by decide) (fun c_64 => ?_) (fun c_65 => ?_)
            · have hw := hw_66 c_64
              refine v_sub [1, 2, 3, 4, 5] rfl ?_
              exact b_X0_glen_114 (fun q0 q1 q2 z => ih q0 q1 q2 z) x3 x4 h_63 hw
            · have hw := hw_67 c_65
              refine v_sub [1, 2, 3, 4, 5, 0] rfl ?_
              exact b_X0_glen_90 (fun q0 q1 q2 z => ih q0 q1 q2 z) x3 x4 (some a_43) h_63 hw
theorem e_X0_glen {post : (Int32) → (AH) → Prop}   {b0 : Nat} {x1 : Int32} {x2 : Int32} {h : AH}  (hw : w_X0_glen post  b0 x1 x2 h) : VV l E X cX0_glen RX0 "glen" 6 r_X0_glen (some .int) (vpi (fun (r : Int32) (h' : AH) => post r h')) h 0 0 0 [(0, va_rf (some b0)), (1, .int x1), (2, .int x2)] [] := by
  refine v_iload_n (q := 1) dX0_glen_0 rfl rfl ?_
  refine v_callS q404 q405 q104 q406 n_X0_isGlen ⟨Nat.le_of_ble_eq_true rfl, Nat.le_of_ble_eq_true rfl⟩ [.int x1] [] (met_X0_isGlen hw) rfl (Nat.zero_le _) ⟨Nat.le_refl _, Nat.le_refl _⟩ dX0_glen_1 rfl (v_ki (fun z_74 h1 hv => ?_))
  clear hw
  obtain ⟨e9, hw⟩ := hv
  refine v_heap e9 ?_
  clear e9
  obtain ⟨hw_77, hw_78⟩ := hw
  refine v_if_eq (tgt := 19) dX0_glen_4 (by decide) (fun c_75 => ?_) (fun c_76 => ?_)
  · have hw := hw_77 c_75
    refine v_sub [0, 1, 2] rfl ?_
    exact b_X0_glen_19 h hw
  · have hw := hw_78 c_76
    refine v_iload_n (q := 2) dX0_glen_7 rfl rfl ?_
    refine v_i2l dX0_glen_8 ?_
    refine v_lconst (v := lN 0) dX0_glen_9 rfl ?_
    refine v_ldc2 (v := (lN 3)) dX0_glen_10 q1307 ?_
    refine v_callS q393 q394 q104 q395 n_X0_in ⟨Nat.le_of_ble_eq_true rfl, Nat.le_of_ble_eq_true rfl⟩ [.long ((x2).toInt64), .long (lN 0), .long (lN 3)] [] (met_X0_in hw) rfl (Nat.zero_le _) ⟨Nat.le_refl _, Nat.le_refl _⟩ dX0_glen_13 rfl (v_ki (fun z_79 h1 hv => ?_))
    clear hw
    obtain ⟨e9, hw⟩ := hv
    refine v_heap e9 ?_
    clear e9
    obtain ⟨hw_82, hw_83⟩ := hw
    refine v_if_ne (tgt := 26) dX0_glen_16 (by decide) (fun c_80 => ?_) (fun c_81 => ?_)
    · have hw := hw_82 c_80
      refine v_iconst dX0_glen_26 ic_0 ?_
      refine v_istore_n (lv1 := [(3, .int (nI 0)), (0, va_rf (some b0)), (1, .int x1), (2, .int x2)]) dX0_glen_27 rfl (Nat.le_of_ble_eq_true rfl) rfl ?_
      refine v_iconst dX0_glen_28 ic_0 ?_
      refine v_istore (lv1 := [(4, .int (nI 0)), (3, .int (nI 0)), (0, va_rf (some b0)), (1, .int x1), (2, .int x2)]) dX0_glen_29 (Nat.le_of_ble_eq_true rfl) rfl ?_
      obtain ⟨n_84, hw⟩ := hw
      refine v_sub [2, 3, 4, 1, 0] rfl ?_
      exact b_X0_glen_31 n_84 (nI 0) (nI 0) h hw
    · have hw := hw_83 c_81
      refine v_sub [0, 1, 2] rfl ?_
      exact b_X0_glen_19 h hw
theorem met_X0_glen {post : (Int32) → (AH) → Prop}   {b0 : Nat} {x1 : Int32} {x2 : Int32} {h : AH}  (hw : w_X0_glen post  b0 x1 x2 h) : Mt l E yX0_glen (ws_ yX0_glen cX0_glen 6 (some .int)) r_X0_glen [va_rf (some b0), .int x1, .int x2] h (vpi (fun (r : Int32) (h' : AH) => post r h')) := v_entry (by decide +kernel) (Nat.le_of_ble_eq_true rfl) rfl (fun _ => e_X0_glen hw)
/-! X24_init -/
abbrev r_X24_init : Room := { frames := 1, cells := 0, slots := 0, locals := 20 }
theorem n_X24_init : vdn yX24_init 2 := ⟨by decide +kernel, by decide +kernel, by decide +kernel⟩
def w_X24_init (post : (AH) → Prop) (b0 : Nat) (x1 : Int32) (x2 : Int32) (h : AH) : Prop :=
 (∃ fs_1 : List Value, h b0 = some (.inr (24, fs_1)) ∧ 0 < fs_1.length ∧ ∀ h_4 : AH, h_4 = va_up h b0 (some (.inr (24, fs_1.set 0 (.int x1)))) → (∃ fs_5 : List Value, h_4 b0 = some (.inr (24, fs_5)) ∧ 1 < fs_5.length ∧ ∀ h_8 : AH, h_8 = va_up h_4 b0 (some (.inr (24, fs_5.set 1 (.int x2)))) → (post h_8)))
theorem e_X24_init {post : (AH) → Prop}   {b0 : Nat} {x1 : Int32} {x2 : Int32} {h : AH}  (hw : w_X24_init post  b0 x1 x2 h) : VV l E X cX24_init RX24 "<init>" 3 r_X24_init none (vpv (fun (h' : AH) => post h')) h 0 0 0 [(0, va_rf (some b0)), (1, .int x1), (2, .int x2)] [] := by
  refine v_aload_n (q := 0) dX24_init_0 rfl rfl ?_
  refine v_objInit q1318 q154 q155 (Nat.zero_le _) (Nat.le_of_ble_eq_true rfl) (Nat.le_of_ble_eq_true rfl) dX24_init_1 ?_
  refine v_aload_n (q := 0) dX24_init_4 rfl rfl ?_
  refine v_iload_n (q := 1) dX24_init_5 rfl rfl ?_
  obtain ⟨fs_1, e_2, e_3, hw⟩ := hw
  obtain ⟨h_4, eh_4⟩ : ∃ z9 : AH, z9 = va_up h b0 (some (.inr (24, fs_1.set 0 (.int x1)))) := ⟨_, rfl⟩
  replace hw := hw h_4 eh_4
  refine v_putF in_X24 (ci := 24) rfl 0 (Nat.le_of_ble_eq_true rfl) tyX24 tyX24_ok nmX24 q1319 rfl rfl rfl rfl rfl rfl rfl dX24_init_6 e_2 e_3 ?_
  rw [← eh_4]
  refine v_aload_n (q := 0) dX24_init_9 rfl rfl ?_
  refine v_iload_n (q := 2) dX24_init_10 rfl rfl ?_
  obtain ⟨fs_5, e_6, e_7, hw⟩ := hw
  obtain ⟨h_8, eh_8⟩ : ∃ z9 : AH, z9 = va_up h_4 b0 (some (.inr (24, fs_5.set 1 (.int x2)))) := ⟨_, rfl⟩
  replace hw := hw h_8 eh_8
  refine v_putF in_X24 (ci := 24) rfl 1 (Nat.le_of_ble_eq_true rfl) tyX24 tyX24_ok nmX24 q1321 rfl rfl rfl rfl rfl rfl rfl dX24_init_11 e_6 e_7 ?_
  rw [← eh_8]
  exact v_vret dX24_init_14 rfl ⟨rfl, hw⟩
theorem met_X24_init {post : (AH) → Prop}   {b0 : Nat} {x1 : Int32} {x2 : Int32} {h : AH}  (hw : w_X24_init post  b0 x1 x2 h) : Mt l E yX24_init (ws_ yX24_init cX24_init 3 none) r_X24_init [va_rf (some b0), .int x1, .int x2] h (vpv (fun (h' : AH) => post h')) := v_entry (by decide +kernel) (Nat.le_of_ble_eq_true rfl) rfl (fun _ => e_X24_init hw)
/-! X0_paid -/
abbrev r_X0_paid : Room := { frames := 8, cells := 2, slots := 66, locals := 228 }
theorem n_X0_paid : vdn yX0_paid 2 := ⟨by decide +kernel, by decide +kernel, by decide +kernel⟩
def w_X0_paid_19 (post : (Int32) → (AH) → Prop) (b0 : Nat) (x1 : Int32) (x2 : Int32) (h : AH) (k : Nat) (n : Nat) : Prop :=
 (∃ fs_3 : List Value, h b0 = some (.inr (0, fs_3)) ∧ (w_X0_refuse (fun (z_1 : Int32) (h_2 : AH) => (post z_1 h_2)) b0 (-3) h))
def w_X0_paid (post : (Int32) → (AH) → Prop) (b0 : Nat) (x1 : Int32) (x2 : Int32) (h : AH) : Prop :=
 (w_X0_isDay (fun (z_5 : Int32) => ((z_5 = 0 → (w_X0_paid_19 post b0 x1 x2 h 0 0)) ∧ (¬ z_5 = 0 → (w_X0_in (fun (z_10 : Int32) => ((¬ z_10 = 0 → (∃ (fs_15 : List Value) (r_18 : Option Nat), h b0 = some (.inr (0, fs_15)) ∧ fs_15[1]? = some (va_rf r_18) ∧ (∃ a_19 : Nat, r_18 = some a_19 ∧ (∃ (fs_20 : List Value) (r_23 : Option Nat), h a_19 = some (.inr (1, fs_20)) ∧ fs_20[8]? = some (va_rf r_23) ∧ (∃ a_24 : Nat, r_23 = some a_24 ∧ (∃ fs_71 : List Value, h a_24 = some (.inr (2, fs_71)) ∧ (w_J2_size (fun (z_25 : Int32) => ((¬ z_25 = (nI 20) → (∃ (fs_30 : List Value) (r_33 : Option Nat), h b0 = some (.inr (0, fs_30)) ∧ fs_30[1]? = some (va_rf r_33) ∧ (∃ a_34 : Nat, r_33 = some a_34 ∧ (∃ (fs_35 : List Value) (r_38 : Option Nat), h a_34 = some (.inr (1, fs_35)) ∧ fs_35[8]? = some (va_rf r_38) ∧ (0 + 1 ≤ 2 ∧ 0 + 2 ≤ 66 ∧ ∀ a_39 : Nat, h a_39 = none → ∀ h_41 : AH, h_41 = va_up h a_39 (some (.inr (24, dfX24))) → (w_X24_init (fun (h_46 : AH) => (∃ a_47 : Nat, r_38 = some a_47 ∧ (∃ fs_65 : List Value, h_46 a_47 = some (.inr (2, fs_65)) ∧ ((0 + 1) + 1 ≤ 2 ∧ (0 + 2) + 63 ≤ 66 ∧ (w_J2_add (fun (z_48 : Int32) (h_49 : AH) => (∃ (fs_50 : List Value) (r_53 : Option Nat), h_49 b0 = some (.inr (0, fs_50)) ∧ fs_50[1]? = some (va_rf r_53) ∧ (∃ a_54 : Nat, r_53 = some a_54 ∧ (∃ (fs_55 : List Value) (r_58 : Option Nat), h_49 a_54 = some (.inr (1, fs_55)) ∧ fs_55[8]? = some (va_rf r_58) ∧ (∃ a_59 : Nat, r_58 = some a_59 ∧ (∃ fs_61 : List Value, h_49 a_59 = some (.inr (2, fs_61)) ∧ (w_J2_size (fun (z_60 : Int32) => (post z_60 h_49)) a_59 h_49))))))) a_47 (some a_39) h_46))))) a_39 x1 x2 h_41)))))) ∧ (z_25 = (nI 20) → (∃ fs_69 : List Value, h b0 = some (.inr (0, fs_69)) ∧ (w_X0_refuse (fun (z_67 : Int32) (h_68 : AH) => (post z_67 h_68)) b0 (-4) h))))) a_24 h))))))) ∧ (z_10 = 0 → (w_X0_paid_19 post b0 x1 x2 h 0 0)))) ((x2).toInt64) (lN 1) (lN 999))))) x1)
theorem b_X0_paid_19 {post : (Int32) → (AH) → Prop}   {b0 : Nat} {x1 : Int32} {x2 : Int32}    (h : AH) (k : Nat) (n : Nat) (hw : w_X0_paid_19 post b0 x1 x2 h k n) : VV l E X cX0_paid RX0 "paid" 3 r_X0_paid (some .int) (vpi (fun (r : Int32) (h' : AH) => post r h')) h k n 19 [(0, va_rf (some b0)), (1, .int x1), (2, .int x2)] [] := by
  refine v_aload_n (q := 0) dX0_paid_19 rfl rfl ?_
  refine v_bipush dX0_paid_20 bp_m3 ?_
  obtain ⟨fs_3, e_4, hw⟩ := hw
  refine v_callV0 q396 q398 qs0 q104 q399 (ci := 0) rfl e_4 n_X0_refuse ⟨Nat.le_of_ble_eq_true rfl, Nat.le_of_ble_eq_true rfl⟩ [.int (-3)] [] (met_X0_refuse hw) rfl (Nat.zero_le _) rfl rfl dX0_paid_22 rfl (v_ki (fun z_1 h_2 hv => ?_))
  clear hw
  have hw := hv
  clear hv
  exact v_iret dX0_paid_25 rfl ⟨_, rfl, hw⟩
theorem e_X0_paid {post : (Int32) → (AH) → Prop}   {b0 : Nat} {x1 : Int32} {x2 : Int32} {h : AH}  (hw : w_X0_paid post  b0 x1 x2 h) : VV l E X cX0_paid RX0 "paid" 3 r_X0_paid (some .int) (vpi (fun (r : Int32) (h' : AH) => post r h')) h 0 0 0 [(0, va_rf (some b0)), (1, .int x1), (2, .int x2)] [] := by
  refine v_iload_n (q := 1) dX0_paid_0 rfl rfl ?_
  refine v_callS0 q408 q409 q104 q410 n_X0_isDay ⟨Nat.le_of_ble_eq_true rfl, Nat.le_of_ble_eq_true rfl⟩ [.int x1] [] (met_X0_isDay hw) rfl (Nat.zero_le _) rfl rfl dX0_paid_1 rfl (v_ki (fun z_5 h1 hv => ?_))
  clear hw
  obtain ⟨e9, hw⟩ := hv
  refine v_heap e9 ?_
  clear e9
  obtain ⟨hw_8, hw_9⟩ := hw
  refine v_if_eq (tgt := 19) dX0_paid_4 (by decide) (fun c_6 => ?_) (fun c_7 => ?_)
  · have hw := hw_8 c_6
    refine v_sub [0, 1, 2] rfl ?_
    exact b_X0_paid_19 h 0 0 hw
  · have hw := hw_9 c_7
    refine v_iload_n (q := 2) dX0_paid_7 rfl rfl ?_
    refine v_i2l dX0_paid_8 ?_
    refine v_lconst (v := lN 1) dX0_paid_9 rfl ?_
    refine v_ldc2 (v := (lN 999)) dX0_paid_10 q1312 ?_
    refine v_callS0 q393 q394 q104 q395 n_X0_in ⟨Nat.le_of_ble_eq_true rfl, Nat.le_of_ble_eq_true rfl⟩ [.long ((x2).toInt64), .long (lN 1), .long (lN 999)] [] (met_X0_in hw) rfl (Nat.zero_le _) rfl rfl dX0_paid_13 rfl (v_ki (fun z_10 h1 hv => ?_))
    clear hw
    obtain ⟨e9, hw⟩ := hv
    refine v_heap e9 ?_
    clear e9
    obtain ⟨hw_13, hw_14⟩ := hw
    refine v_if_ne (tgt := 26) dX0_paid_16 (by decide) (fun c_11 => ?_) (fun c_12 => ?_)
    · have hw := hw_13 c_11
      refine v_aload_n (q := 0) dX0_paid_26 rfl rfl ?_
      obtain ⟨fs_15, r_18, e_16, e_17, hw⟩ := hw
      refine v_get in_X0 (ci := 0) rfl 1 (Nat.le_of_ble_eq_true rfl) q319 rfl dX0_paid_27 e_16 e_17 ?_
      obtain ⟨a_19, ea_19, hw⟩ := hw
      subst ea_19
      obtain ⟨fs_20, r_23, e_21, e_22, hw⟩ := hw
      refine v_getN in_X1 (ci := 1) rfl 8 (Nat.le_of_ble_eq_true rfl) q236 rfl dX0_paid_30 e_21 e_22 ?_
      obtain ⟨a_24, ea_24, hw⟩ := hw
      subst ea_24
      obtain ⟨fs_71, e_72, hw⟩ := hw
      refine v_callV0 q413 q414 q415 q108 q416 (ci := 2) rfl e_72 n_J2_size ⟨Nat.le_of_ble_eq_true rfl, Nat.le_of_ble_eq_true rfl⟩ [] [] (met_J2_size hw) rfl (Nat.zero_le _) rfl rfl dX0_paid_33 rfl (v_ki (fun z_25 h1 hv => ?_))
      clear hw
      obtain ⟨e9, hw⟩ := hv
      refine v_heap e9 ?_
      clear e9
      refine v_bipush dX0_paid_36 bp_20 ?_
      obtain ⟨hw_28, hw_29⟩ := hw
      refine v_icmp_ne (tgt := 48) dX0_paid_38 (by decide) (fun c_26 => ?_) (fun c_27 => ?_)
      · have hw := hw_28 c_26
        refine v_aload_n (q := 0) dX0_paid_48 rfl rfl ?_
        obtain ⟨fs_30, r_33, e_31, e_32, hw⟩ := hw
        refine v_get in_X0 (ci := 0) rfl 1 (Nat.le_of_ble_eq_true rfl) q319 rfl dX0_paid_49 e_31 e_32 ?_
        obtain ⟨a_34, ea_34, hw⟩ := hw
        subst ea_34
        obtain ⟨fs_35, r_38, e_36, e_37, hw⟩ := hw
        refine v_getN in_X1 (ci := 1) rfl 8 (Nat.le_of_ble_eq_true rfl) q236 rfl dX0_paid_52 e_36 e_37 ?_
        obtain ⟨e_42, e_43, hw⟩ := hw
        refine v_new in_X24 (ci := 24) rfl tyX24 tyX24_ok q1313 q1314 q140 dfX24_ok e_42 e_43 dX0_paid_55 (fun a_39 e_40 => ?_)
        obtain ⟨h_41, eh_41⟩ : ∃ z9 : AH, z9 = va_up h a_39 (some (.inr (24, dfX24))) := ⟨_, rfl⟩
        replace hw := hw a_39 e_40 h_41 eh_41
        rw [← eh_41]
        refine v_dup dX0_paid_58 (v_rf1 _) ?_
        refine v_iload_n (q := 1) dX0_paid_59 rfl rfl ?_
        refine v_iload_n (q := 2) dX0_paid_60 rfl rfl ?_
        refine v_callI0 q1315 q1316 q140 q1317 rfl n_X24_init ⟨Nat.le_of_ble_eq_true rfl, Nat.le_of_ble_eq_true rfl⟩ [.int x1, .int x2] [va_rf (some a_39), va_rf r_38] (met_X24_init hw) rfl (by simp only [List.map_cons, List.map_nil, List.sum_cons, List.sum_nil, v_rf1, v_cI, v_cJ]; decide) rfl rfl dX0_paid_61 rfl (v_kv (fun h_46 hv => ?_))
        clear hw
        have hw := hv
        clear hv
        obtain ⟨a_47, ea_47, hw⟩ := hw
        subst ea_47
        obtain ⟨fs_65, e_66, hw⟩ := hw
        obtain ⟨e_63, e_64, hw⟩ := hw
        refine v_callV q445 q446 q447 q108 q448 (ci := 2) rfl e_66 n_J2_add ⟨Nat.le_of_ble_eq_true rfl, Nat.le_of_ble_eq_true rfl⟩ [va_rf (some a_39)] [] (met_J2_add hw) rfl (Nat.zero_le _) ⟨e_63, e_64⟩ dX0_paid_64 rfl (v_ki (fun z_48 h_49 hv => ?_))
        clear hw
        have hw := hv
        clear hv
        refine v_pop dX0_paid_67 rfl ?_
        refine v_aload_n (q := 0) dX0_paid_68 rfl rfl ?_
        obtain ⟨fs_50, r_53, e_51, e_52, hw⟩ := hw
        refine v_get in_X0 (ci := 0) rfl 1 (Nat.le_of_ble_eq_true rfl) q319 rfl dX0_paid_69 e_51 e_52 ?_
        obtain ⟨a_54, ea_54, hw⟩ := hw
        subst ea_54
        obtain ⟨fs_55, r_58, e_56, e_57, hw⟩ := hw
        refine v_getN in_X1 (ci := 1) rfl 8 (Nat.le_of_ble_eq_true rfl) q236 rfl dX0_paid_72 e_56 e_57 ?_
        obtain ⟨a_59, ea_59, hw⟩ := hw
        subst ea_59
        obtain ⟨fs_61, e_62, hw⟩ := hw
        refine v_callV0 q413 q414 q415 q108 q416 (ci := 2) rfl e_62 n_J2_size ⟨Nat.le_of_ble_eq_true rfl, Nat.le_of_ble_eq_true rfl⟩ [] [] (met_J2_size hw) rfl (Nat.zero_le _) rfl rfl dX0_paid_75 rfl (v_ki (fun z_60 h1 hv => ?_))
        clear hw
        obtain ⟨e9, hw⟩ := hv
        refine v_heap e9 ?_
        clear e9
        exact v_iret dX0_paid_78 rfl ⟨_, rfl, hw⟩
      · have hw := hw_29 c_27
        refine v_aload_n (q := 0) dX0_paid_41 rfl rfl ?_
        refine v_bipush dX0_paid_42 bp_m4 ?_
        obtain ⟨fs_69, e_70, hw⟩ := hw
        refine v_callV0 q396 q398 qs0 q104 q399 (ci := 0) rfl e_70 n_X0_refuse ⟨Nat.le_of_ble_eq_true rfl, Nat.le_of_ble_eq_true rfl⟩ [.int (-4)] [] (met_X0_refuse hw) rfl (Nat.zero_le _) rfl rfl dX0_paid_44 rfl (v_ki (fun z_67 h_68 hv => ?_))
        clear hw
        have hw := hv
        clear hv
        exact v_iret dX0_paid_47 rfl ⟨_, rfl, hw⟩
    · have hw := hw_14 c_12
      refine v_sub [0, 1, 2] rfl ?_
      exact b_X0_paid_19 h 0 0 hw
theorem met_X0_paid {post : (Int32) → (AH) → Prop}   {b0 : Nat} {x1 : Int32} {x2 : Int32} {h : AH}  (hw : w_X0_paid post  b0 x1 x2 h) : Mt l E yX0_paid (ws_ yX0_paid cX0_paid 3 (some .int)) r_X0_paid [va_rf (some b0), .int x1, .int x2] h (vpi (fun (r : Int32) (h' : AH) => post r h')) := v_entry (by decide +kernel) (Nat.le_of_ble_eq_true rfl) rfl (fun _ => e_X0_paid hw)
/-! X0_pages -/
abbrev r_X0_pages : Room := { frames := 8, cells := 2, slots := 66, locals := 228 }
theorem n_X0_pages : vdn yX0_pages 2 := ⟨by decide +kernel, by decide +kernel, by decide +kernel⟩
def w_X0_pages_19 (post : (Int32) → (AH) → Prop) (b0 : Nat) (x1 : Int32) (x2 : Int32) (h : AH) (k : Nat) (n : Nat) : Prop :=
 (∃ fs_3 : List Value, h b0 = some (.inr (0, fs_3)) ∧ (w_X0_refuse (fun (z_1 : Int32) (h_2 : AH) => (post z_1 h_2)) b0 (-3) h))
def w_X0_pages (post : (Int32) → (AH) → Prop) (b0 : Nat) (x1 : Int32) (x2 : Int32) (h : AH) : Prop :=
 (w_X0_isDay (fun (z_5 : Int32) => ((z_5 = 0 → (w_X0_pages_19 post b0 x1 x2 h 0 0)) ∧ (¬ z_5 = 0 → (w_X0_in (fun (z_10 : Int32) => ((¬ z_10 = 0 → (∃ (fs_15 : List Value) (r_18 : Option Nat), h b0 = some (.inr (0, fs_15)) ∧ fs_15[1]? = some (va_rf r_18) ∧ (∃ a_19 : Nat, r_18 = some a_19 ∧ (∃ (fs_20 : List Value) (r_23 : Option Nat), h a_19 = some (.inr (1, fs_20)) ∧ fs_20[9]? = some (va_rf r_23) ∧ (∃ a_24 : Nat, r_23 = some a_24 ∧ (∃ fs_71 : List Value, h a_24 = some (.inr (2, fs_71)) ∧ (w_J2_size (fun (z_25 : Int32) => ((¬ z_25 = (nI 40) → (∃ (fs_30 : List Value) (r_33 : Option Nat), h b0 = some (.inr (0, fs_30)) ∧ fs_30[1]? = some (va_rf r_33) ∧ (∃ a_34 : Nat, r_33 = some a_34 ∧ (∃ (fs_35 : List Value) (r_38 : Option Nat), h a_34 = some (.inr (1, fs_35)) ∧ fs_35[9]? = some (va_rf r_38) ∧ (0 + 1 ≤ 2 ∧ 0 + 2 ≤ 66 ∧ ∀ a_39 : Nat, h a_39 = none → ∀ h_41 : AH, h_41 = va_up h a_39 (some (.inr (24, dfX24))) → (w_X24_init (fun (h_46 : AH) => (∃ a_47 : Nat, r_38 = some a_47 ∧ (∃ fs_65 : List Value, h_46 a_47 = some (.inr (2, fs_65)) ∧ ((0 + 1) + 1 ≤ 2 ∧ (0 + 2) + 63 ≤ 66 ∧ (w_J2_add (fun (z_48 : Int32) (h_49 : AH) => (∃ (fs_50 : List Value) (r_53 : Option Nat), h_49 b0 = some (.inr (0, fs_50)) ∧ fs_50[1]? = some (va_rf r_53) ∧ (∃ a_54 : Nat, r_53 = some a_54 ∧ (∃ (fs_55 : List Value) (r_58 : Option Nat), h_49 a_54 = some (.inr (1, fs_55)) ∧ fs_55[9]? = some (va_rf r_58) ∧ (∃ a_59 : Nat, r_58 = some a_59 ∧ (∃ fs_61 : List Value, h_49 a_59 = some (.inr (2, fs_61)) ∧ (w_J2_size (fun (z_60 : Int32) => (post z_60 h_49)) a_59 h_49))))))) a_47 (some a_39) h_46))))) a_39 x1 x2 h_41)))))) ∧ (z_25 = (nI 40) → (∃ fs_69 : List Value, h b0 = some (.inr (0, fs_69)) ∧ (w_X0_refuse (fun (z_67 : Int32) (h_68 : AH) => (post z_67 h_68)) b0 (-4) h))))) a_24 h))))))) ∧ (z_10 = 0 → (w_X0_pages_19 post b0 x1 x2 h 0 0)))) ((x2).toInt64) (lN 1) (lN 99))))) x1)
theorem b_X0_pages_19 {post : (Int32) → (AH) → Prop}   {b0 : Nat} {x1 : Int32} {x2 : Int32}    (h : AH) (k : Nat) (n : Nat) (hw : w_X0_pages_19 post b0 x1 x2 h k n) : VV l E X cX0_pages RX0 "pages" 3 r_X0_pages (some .int) (vpi (fun (r : Int32) (h' : AH) => post r h')) h k n 19 [(0, va_rf (some b0)), (1, .int x1), (2, .int x2)] [] := by
  refine v_aload_n (q := 0) dX0_pages_19 rfl rfl ?_
  refine v_bipush dX0_pages_20 bp_m3 ?_
  obtain ⟨fs_3, e_4, hw⟩ := hw
  refine v_callV0 q396 q398 qs0 q104 q399 (ci := 0) rfl e_4 n_X0_refuse ⟨Nat.le_of_ble_eq_true rfl, Nat.le_of_ble_eq_true rfl⟩ [.int (-3)] [] (met_X0_refuse hw) rfl (Nat.zero_le _) rfl rfl dX0_pages_22 rfl (v_ki (fun z_1 h_2 hv => ?_))
  clear hw
  have hw := hv
  clear hv
  exact v_iret dX0_pages_25 rfl ⟨_, rfl, hw⟩
theorem e_X0_pages {post : (Int32) → (AH) → Prop}   {b0 : Nat} {x1 : Int32} {x2 : Int32} {h : AH}  (hw : w_X0_pages post  b0 x1 x2 h) : VV l E X cX0_pages RX0 "pages" 3 r_X0_pages (some .int) (vpi (fun (r : Int32) (h' : AH) => post r h')) h 0 0 0 [(0, va_rf (some b0)), (1, .int x1), (2, .int x2)] [] := by
  refine v_iload_n (q := 1) dX0_pages_0 rfl rfl ?_
  refine v_callS0 q408 q409 q104 q410 n_X0_isDay ⟨Nat.le_of_ble_eq_true rfl, Nat.le_of_ble_eq_true rfl⟩ [.int x1] [] (met_X0_isDay hw) rfl (Nat.zero_le _) rfl rfl dX0_pages_1 rfl (v_ki (fun z_5 h1 hv => ?_))
  clear hw
  obtain ⟨e9, hw⟩ := hv
  refine v_heap e9 ?_
  clear e9
  obtain ⟨hw_8, hw_9⟩ := hw
  refine v_if_eq (tgt := 19) dX0_pages_4 (by decide) (fun c_6 => ?_) (fun c_7 => ?_)
  · have hw := hw_8 c_6
    refine v_sub [0, 1, 2] rfl ?_
    exact b_X0_pages_19 h 0 0 hw
  · have hw := hw_9 c_7
    refine v_iload_n (q := 2) dX0_pages_7 rfl rfl ?_
    refine v_i2l dX0_pages_8 ?_
    refine v_lconst (v := lN 1) dX0_pages_9 rfl ?_
    refine v_ldc2 (v := (lN 99)) dX0_pages_10 q1332 ?_
    refine v_callS0 q393 q394 q104 q395 n_X0_in ⟨Nat.le_of_ble_eq_true rfl, Nat.le_of_ble_eq_true rfl⟩ [.long ((x2).toInt64), .long (lN 1), .long (lN 99)] [] (met_X0_in hw) rfl (Nat.zero_le _) rfl rfl dX0_pages_13 rfl (v_ki (fun z_10 h1 hv => ?_))
    clear hw
    obtain ⟨e9, hw⟩ := hv
    refine v_heap e9 ?_
    clear e9
    obtain ⟨hw_13, hw_14⟩ := hw
    refine v_if_ne (tgt := 26) dX0_pages_16 (by decide) (fun c_11 => ?_) (fun c_12 => ?_)
    · have hw := hw_13 c_11
      refine v_aload_n (q := 0) dX0_pages_26 rfl rfl ?_
      obtain ⟨fs_15, r_18, e_16, e_17, hw⟩ := hw
      refine v_get in_X0 (ci := 0) rfl 1 (Nat.le_of_ble_eq_true rfl) q319 rfl dX0_pages_27 e_16 e_17 ?_
      obtain ⟨a_19, ea_19, hw⟩ := hw
      subst ea_19
      obtain ⟨fs_20, r_23, e_21, e_22, hw⟩ := hw
      refine v_getN in_X1 (ci := 1) rfl 9 (Nat.le_of_ble_eq_true rfl) q238 rfl dX0_pages_30 e_21 e_22 ?_
      obtain ⟨a_24, ea_24, hw⟩ := hw
      subst ea_24
      obtain ⟨fs_71, e_72, hw⟩ := hw
      refine v_callV0 q413 q414 q415 q108 q416 (ci := 2) rfl e_72 n_J2_size ⟨Nat.le_of_ble_eq_true rfl, Nat.le_of_ble_eq_true rfl⟩ [] [] (met_J2_size hw) rfl (Nat.zero_le _) rfl rfl dX0_pages_33 rfl (v_ki (fun z_25 h1 hv => ?_))
      clear hw
      obtain ⟨e9, hw⟩ := hv
      refine v_heap e9 ?_
      clear e9
      refine v_bipush dX0_pages_36 bp_40 ?_
      obtain ⟨hw_28, hw_29⟩ := hw
      refine v_icmp_ne (tgt := 48) dX0_pages_38 (by decide) (fun c_26 => ?_) (fun c_27 => ?_)
      · have hw := hw_28 c_26
        refine v_aload_n (q := 0) dX0_pages_48 rfl rfl ?_
        obtain ⟨fs_30, r_33, e_31, e_32, hw⟩ := hw
        refine v_get in_X0 (ci := 0) rfl 1 (Nat.le_of_ble_eq_true rfl) q319 rfl dX0_pages_49 e_31 e_32 ?_
        obtain ⟨a_34, ea_34, hw⟩ := hw
        subst ea_34
        obtain ⟨fs_35, r_38, e_36, e_37, hw⟩ := hw
        refine v_getN in_X1 (ci := 1) rfl 9 (Nat.le_of_ble_eq_true rfl) q238 rfl dX0_pages_52 e_36 e_37 ?_
        obtain ⟨e_42, e_43, hw⟩ := hw
        refine v_new in_X24 (ci := 24) rfl tyX24 tyX24_ok q1313 q1314 q140 dfX24_ok e_42 e_43 dX0_pages_55 (fun a_39 e_40 => ?_)
        obtain ⟨h_41, eh_41⟩ : ∃ z9 : AH, z9 = va_up h a_39 (some (.inr (24, dfX24))) := ⟨_, rfl⟩
        replace hw := hw a_39 e_40 h_41 eh_41
        rw [← eh_41]
        refine v_dup dX0_pages_58 (v_rf1 _) ?_
        refine v_iload_n (q := 1) dX0_pages_59 rfl rfl ?_
        refine v_iload_n (q := 2) dX0_pages_60 rfl rfl ?_
        refine v_callI0 q1315 q1316 q140 q1317 rfl n_X24_init ⟨Nat.le_of_ble_eq_true rfl, Nat.le_of_ble_eq_true rfl⟩ [.int x1, .int x2] [va_rf (some a_39), va_rf r_38] (met_X24_init hw) rfl (by simp only [List.map_cons, List.map_nil, List.sum_cons, List.sum_nil, v_rf1, v_cI, v_cJ]; decide) rfl rfl dX0_pages_61 rfl (v_kv (fun h_46 hv => ?_))
        clear hw
        have hw := hv
        clear hv
        obtain ⟨a_47, ea_47, hw⟩ := hw
        subst ea_47
        obtain ⟨fs_65, e_66, hw⟩ := hw
        obtain ⟨e_63, e_64, hw⟩ := hw
        refine v_callV q445 q446 q447 q108 q448 (ci := 2) rfl e_66 n_J2_add ⟨Nat.le_of_ble_eq_true rfl, Nat.le_of_ble_eq_true rfl⟩ [va_rf (some a_39)] [] (met_J2_add hw) rfl (Nat.zero_le _) ⟨e_63, e_64⟩ dX0_pages_64 rfl (v_ki (fun z_48 h_49 hv => ?_))
        clear hw
        have hw := hv
        clear hv
        refine v_pop dX0_pages_67 rfl ?_
        refine v_aload_n (q := 0) dX0_pages_68 rfl rfl ?_
        obtain ⟨fs_50, r_53, e_51, e_52, hw⟩ := hw
        refine v_get in_X0 (ci := 0) rfl 1 (Nat.le_of_ble_eq_true rfl) q319 rfl dX0_pages_69 e_51 e_52 ?_
        obtain ⟨a_54, ea_54, hw⟩ := hw
        subst ea_54
        obtain ⟨fs_55, r_58, e_56, e_57, hw⟩ := hw
        refine v_getN in_X1 (ci := 1) rfl 9 (Nat.le_of_ble_eq_true rfl) q238 rfl dX0_pages_72 e_56 e_57 ?_
        obtain ⟨a_59, ea_59, hw⟩ := hw
        subst ea_59
        obtain ⟨fs_61, e_62, hw⟩ := hw
        refine v_callV0 q413 q414 q415 q108 q416 (ci := 2) rfl e_62 n_J2_size ⟨Nat.le_of_ble_eq_true rfl, Nat.le_of_ble_eq_true rfl⟩ [] [] (met_J2_size hw) rfl (Nat.zero_le _) rfl rfl dX0_pages_75 rfl (v_ki (fun z_60 h1 hv => ?_))
        clear hw
        obtain ⟨e9, hw⟩ := hv
        refine v_heap e9 ?_
        clear e9
        exact v_iret dX0_pages_78 rfl ⟨_, rfl, hw⟩
      · have hw := hw_29 c_27
        refine v_aload_n (q := 0) dX0_pages_41 rfl rfl ?_
        refine v_bipush dX0_pages_42 bp_m4 ?_
        obtain ⟨fs_69, e_70, hw⟩ := hw
        refine v_callV0 q396 q398 qs0 q104 q399 (ci := 0) rfl e_70 n_X0_refuse ⟨Nat.le_of_ble_eq_true rfl, Nat.le_of_ble_eq_true rfl⟩ [.int (-4)] [] (met_X0_refuse hw) rfl (Nat.zero_le _) rfl rfl dX0_pages_44 rfl (v_ki (fun z_67 h_68 hv => ?_))
        clear hw
        have hw := hv
        clear hv
        exact v_iret dX0_pages_47 rfl ⟨_, rfl, hw⟩
    · have hw := hw_14 c_12
      refine v_sub [0, 1, 2] rfl ?_
      exact b_X0_pages_19 h 0 0 hw
theorem met_X0_pages {post : (Int32) → (AH) → Prop}   {b0 : Nat} {x1 : Int32} {x2 : Int32} {h : AH}  (hw : w_X0_pages post  b0 x1 x2 h) : Mt l E yX0_pages (ws_ yX0_pages cX0_pages 3 (some .int)) r_X0_pages [va_rf (some b0), .int x1, .int x2] h (vpi (fun (r : Int32) (h' : AH) => post r h')) := v_entry (by decide +kernel) (Nat.le_of_ble_eq_true rfl) rfl (fun _ => e_X0_pages hw)
/-! X0_pagesIn -/
abbrev r_X0_pagesIn : Room := { frames := 3, cells := 0, slots := 0, locals := 64 }
theorem n_X0_pagesIn : vdn yX0_pagesIn 2 := ⟨by decide +kernel, by decide +kernel, by decide +kernel⟩
def w_X0_pagesIn_72 (post : (Int32) → Prop) (k5 : (Int32) → (Int32) → Prop) (b0 : Nat) (x1 : Int32) (x2 : Int32) (h : AH) (x4 : Int32) (s0 : Int32) (s1 : Int32) : Prop :=
 (∀ z_1 : Int32, z_1 = (s1 + s0) → (∀ z_2 : Int32, z_2 = x4 + (nI 1) → (k5 z_1 z_2)))
def w_X0_pagesIn_5 (post : (Int32) → Prop) (b0 : Nat) (x1 : Int32) (x2 : Int32) (h : AH) : Nat → (Int32) → (Int32) → Prop
 | 0, _, _ => False
 | n0 + 1, x3, x4 =>
 (∃ (fs_3 : List Value) (r_6 : Option Nat), h b0 = some (.inr (0, fs_3)) ∧ fs_3[1]? = some (va_rf r_6) ∧ (∃ a_7 : Nat, r_6 = some a_7 ∧ (∃ (fs_8 : List Value) (r_11 : Option Nat), h a_7 = some (.inr (1, fs_8)) ∧ fs_8[9]? = some (va_rf r_11) ∧ (∃ a_12 : Nat, r_11 = some a_12 ∧ (∃ fs_63 : List Value, h a_12 = some (.inr (2, fs_63)) ∧ (w_J2_size (fun (z_13 : Int32) => ((z_13 ≤ x4 → (post x3)) ∧ (¬ z_13 ≤ x4 → (∃ (fs_18 : List Value) (r_21 : Option Nat), h b0 = some (.inr (0, fs_18)) ∧ fs_18[1]? = some (va_rf r_21) ∧ (∃ a_22 : Nat, r_21 = some a_22 ∧ (∃ (fs_23 : List Value) (r_26 : Option Nat), h a_22 = some (.inr (1, fs_23)) ∧ fs_23[9]? = some (va_rf r_26) ∧ (∃ a_27 : Nat, r_26 = some a_27 ∧ (∃ fs_61 : List Value, h a_27 = some (.inr (2, fs_61)) ∧ (w_J2_get (fun (r_28 : Option Nat) => (∃ a_29 : Nat, r_28 = some a_29 ∧ (∃ fs_30 : List Value, h a_29 = some (.inr (24, fs_30)) ∧ (∃ (fs_32 : List Value) (z_35 : Int32), h a_29 = some (.inr (24, fs_32)) ∧ fs_32[0]? = some (.int z_35) ∧ (w_X0_in (fun (z_36 : Int32) => ((z_36 = 0 → (w_X0_pagesIn_72 post (fun (q0 : Int32) (q1 : Int32) => w_X0_pagesIn_5 post b0 x1 x2 h n0 q0 q1) b0 x1 x2 h x4 (nI 0) x3)) ∧ (¬ z_36 = 0 → (∃ (fs_41 : List Value) (r_44 : Option Nat), h b0 = some (.inr (0, fs_41)) ∧ fs_41[1]? = some (va_rf r_44) ∧ (∃ a_45 : Nat, r_44 = some a_45 ∧ (∃ (fs_46 : List Value) (r_49 : Option Nat), h a_45 = some (.inr (1, fs_46)) ∧ fs_46[9]? = some (va_rf r_49) ∧ (∃ a_50 : Nat, r_49 = some a_50 ∧ (∃ fs_59 : List Value, h a_50 = some (.inr (2, fs_59)) ∧ (w_J2_get (fun (r_51 : Option Nat) => (∃ a_52 : Nat, r_51 = some a_52 ∧ (∃ fs_53 : List Value, h a_52 = some (.inr (24, fs_53)) ∧ (∃ (fs_55 : List Value) (z_58 : Int32), h a_52 = some (.inr (24, fs_55)) ∧ fs_55[1]? = some (.int z_58) ∧ (w_X0_pagesIn_72 post (fun (q0 : Int32) (q1 : Int32) => w_X0_pagesIn_5 post b0 x1 x2 h n0 q0 q1) b0 x1 x2 h x4 z_58 x3))))) a_50 x4 h))))))))) ((z_35).toInt64) ((x1).toInt64) ((x2).toInt64)))))) a_27 x4 h))))))))) a_12 h))))))
def w_X0_pagesIn (post : (Int32) → Prop) (b0 : Nat) (x1 : Int32) (x2 : Int32) (h : AH) : Prop :=
 (∃ n1 : Nat, (w_X0_pagesIn_5 post b0 x1 x2 h n1 (nI 0) (nI 0)))
theorem b_X0_pagesIn_72 {post : (Int32) → Prop}   {b0 : Nat} {x1 : Int32} {x2 : Int32} {h : AH} {k5 : (Int32) → (Int32) → Prop}  (hk5 : ∀ (x3 : Int32) (x4 : Int32), k5 x3 x4 → VV l E X cX0_pagesIn RX0 "pagesIn" 5 r_X0_pagesIn (some .int) (vpi (fun (r : Int32) (h' : AH) => h' = h ∧ post r)) h 0 0 5 [(0, va_rf (some b0)), (1, .int x1), (2, .int x2), (3, .int x3), (4, .int x4)] []) (x4 : Int32) (s0 : Int32) (s1 : Int32) (hw : w_X0_pagesIn_72 post k5 b0 x1 x2 h x4 s0 s1) : VV l E X cX0_pagesIn RX0 "pagesIn" 5 r_X0_pagesIn (some .int) (vpi (fun (r : Int32) (h' : AH) => h' = h ∧ post r)) h 0 0 72 [(0, va_rf (some b0)), (1, .int x1), (2, .int x2), (4, .int x4)] [.int s0, .int s1] := by
  refine v_iadd dX0_pagesIn_72 ?_
  refine v_topi (fun z_1 e_1 => ?_)
  replace hw := hw z_1 e_1
  refine v_istore_n (lv1 := [(3, .int z_1), (0, va_rf (some b0)), (1, .int x1), (2, .int x2), (4, .int x4)]) dX0_pagesIn_73 rfl (Nat.le_of_ble_eq_true rfl) rfl ?_
  obtain ⟨z_2, e_2⟩ : ∃ z9 : Int32, z9 = x4 + (nI 1) := ⟨_, rfl⟩
  replace hw := hw z_2 e_2
  refine v_iinc (q := 4) (v := z_2) (lv1 := [(4, .int z_2), (3, .int z_1), (0, va_rf (some b0)), (1, .int x1), (2, .int x2)]) dX0_pagesIn_74 rfl (by rw [e_2, ic_1]) (Nat.le_of_ble_eq_true rfl) rfl ?_
  refine v_goto (tgt := 5) dX0_pagesIn_77 (by decide) ?_
  refine v_sub [2, 3, 4, 1, 0] rfl ?_
  exact hk5 z_1 z_2 hw
theorem b_X0_pagesIn_5 {post : (Int32) → Prop}   {b0 : Nat} {x1 : Int32} {x2 : Int32} {h : AH}    : ∀ (n0 : Nat) (x3 : Int32) (x4 : Int32), w_X0_pagesIn_5 post b0 x1 x2 h n0 x3 x4 → VV l E X cX0_pagesIn RX0 "pagesIn" 5 r_X0_pagesIn (some .int) (vpi (fun (r : Int32) (h' : AH) => h' = h ∧ post r)) h 0 0 5 [(0, va_rf (some b0)), (1, .int x1), (2, .int x2), (3, .int x3), (4, .int x4)] [] := by
  intro n0
  induction n0 with
  | zero =>
    intro x3 x4 hw
    exact hw.elim
  | succ n0 ih =>
    intro x3 x4 hw
    refine v_iload (q := 4) dX0_pagesIn_5 rfl ?_
    refine v_aload_n (q := 0) dX0_pagesIn_7 rfl rfl ?_
    obtain ⟨fs_3, r_6, e_4, e_5, hw⟩ := hw
    refine v_get in_X0 (ci := 0) rfl 1 (Nat.le_of_ble_eq_true rfl) q319 rfl dX0_pagesIn_8 e_4 e_5 ?_
    obtain ⟨a_7, ea_7, hw⟩ := hw
    subst ea_7
    obtain ⟨fs_8, r_11, e_9, e_10, hw⟩ := hw
    refine v_getN in_X1 (ci := 1) rfl 9 (Nat.le_of_ble_eq_true rfl) q238 rfl dX0_pagesIn_11 e_9 e_10 ?_
    obtain ⟨a_12, ea_12, hw⟩ := hw
    subst ea_12
    obtain ⟨fs_63, e_64, hw⟩ := hw
    refine v_callV q413 q414 q415 q108 q416 (ci := 2) rfl e_64 n_J2_size ⟨Nat.le_of_ble_eq_true rfl, Nat.le_of_ble_eq_true rfl⟩ [] [.int x4] (met_J2_size hw) rfl (Nat.le_of_ble_eq_true rfl) ⟨Nat.le_refl _, Nat.le_refl _⟩ dX0_pagesIn_14 rfl (v_ki (fun z_13 h1 hv => ?_))
    clear hw
    obtain ⟨e9, hw⟩ := hv
    refine v_heap e9 ?_
    clear e9
    obtain ⟨hw_16, hw_17⟩ := hw
    refine v_icmp_ge (tgt := 80) dX0_pagesIn_17 (by decide) (fun c_14 => ?_) (fun c_15 => ?_)
    · have hw := hw_16 c_14
      refine v_iload_n (q := 3) dX0_pagesIn_80 rfl rfl ?_
      exact v_iret dX0_pagesIn_81 rfl ⟨_, rfl, rfl, hw⟩
    · have hw := hw_17 c_15
      refine v_iload_n (q := 3) dX0_pagesIn_20 rfl rfl ?_
      refine v_aload_n (q := 0) dX0_pagesIn_21 rfl rfl ?_
      obtain ⟨fs_18, r_21, e_19, e_20, hw⟩ := hw
      refine v_get in_X0 (ci := 0) rfl 1 (Nat.le_of_ble_eq_true rfl) q319 rfl dX0_pagesIn_22 e_19 e_20 ?_
      obtain ⟨a_22, ea_22, hw⟩ := hw
      subst ea_22
      obtain ⟨fs_23, r_26, e_24, e_25, hw⟩ := hw
      refine v_getN in_X1 (ci := 1) rfl 9 (Nat.le_of_ble_eq_true rfl) q238 rfl dX0_pagesIn_25 e_24 e_25 ?_
      refine v_iload (q := 4) dX0_pagesIn_28 rfl ?_
      obtain ⟨a_27, ea_27, hw⟩ := hw
      subst ea_27
      obtain ⟨fs_61, e_62, hw⟩ := hw
      refine v_callV q577 q578 q579 q108 q580 (ci := 2) rfl e_62 n_J2_get ⟨Nat.le_of_ble_eq_true rfl, Nat.le_of_ble_eq_true rfl⟩ [.int x4] [.int x3] (met_J2_get hw) rfl (Nat.le_of_ble_eq_true rfl) ⟨Nat.le_refl _, Nat.le_refl _⟩ dX0_pagesIn_30 rfl (v_kq (fun r_28 h1 hv => ?_))
      clear hw
      obtain ⟨e9, hw⟩ := hv
      refine v_heap e9 ?_
      clear e9
      obtain ⟨a_29, ea_29, hw⟩ := hw
      subst ea_29
      obtain ⟨fs_30, e_31, hw⟩ := hw
      refine v_cast (ci := 24) rfl q1313 dX0_pagesIn_33 e_31 ?_
      obtain ⟨fs_32, z_35, e_33, e_34, hw⟩ := hw
      refine v_getN in_X24 (ci := 24) rfl 0 (Nat.le_of_ble_eq_true rfl) q1320 rfl dX0_pagesIn_36 e_33 e_34 ?_
      refine v_i2l dX0_pagesIn_39 ?_
      refine v_iload_n (q := 1) dX0_pagesIn_40 rfl rfl ?_
      refine v_i2l dX0_pagesIn_41 ?_
      refine v_iload_n (q := 2) dX0_pagesIn_42 rfl rfl ?_
      refine v_i2l dX0_pagesIn_43 ?_
      refine v_callS q393 q394 q104 q395 n_X0_in ⟨Nat.le_of_ble_eq_true rfl, Nat.le_of_ble_eq_true rfl⟩ [.long ((z_35).toInt64), .long ((x1).toInt64), .long ((x2).toInt64)] [.int x3] (met_X0_in hw) rfl (Nat.le_of_ble_eq_true rfl) ⟨Nat.le_refl _, Nat.le_refl _⟩ dX0_pagesIn_44 rfl (v_ki (fun z_36 h1 hv => ?_))
      clear hw
      obtain ⟨e9, hw⟩ := hv
      refine v_heap e9 ?_
      clear e9
      obtain ⟨hw_39, hw_40⟩ := hw
      refine v_if_eq (tgt := 71) dX0_pagesIn_47 (by decide) (fun c_37 => ?_) (fun c_38 => ?_)
      · have hw := hw_39 c_37
        refine v_iconst dX0_pagesIn_71 ic_0 ?_
        refine v_sub [0, 1, 2, 4] rfl ?_
        exact b_X0_pagesIn_72 (fun q0 q1 z => ih q0 q1 z) x4 (nI 0) x3 hw
      · have hw := hw_40 c_38
        refine v_aload_n (q := 0) dX0_pagesIn_50 rfl rfl ?_
        obtain ⟨fs_41, r_44, e_42, e_43, hw⟩ := hw
        refine v_get in_X0 (ci := 0) rfl 1 (Nat.le_of_ble_eq_true rfl) q319 rfl dX0_pagesIn_51 e_42 e_43 ?_
        obtain ⟨a_45, ea_45, hw⟩ := hw
        subst ea_45
        obtain ⟨fs_46, r_49, e_47, e_48, hw⟩ := hw
        refine v_getN in_X1 (ci := 1) rfl 9 (Nat.le_of_ble_eq_true rfl) q238 rfl dX0_pagesIn_54 e_47 e_48 ?_
        refine v_iload (q := 4) dX0_pagesIn_57 rfl ?_
        obtain ⟨a_50, ea_50, hw⟩ := hw
        subst ea_50
        obtain ⟨fs_59, e_60, hw⟩ := hw
        refine v_callV q577 q578 q579 q108 q580 (ci := 2) rfl e_60 n_J2_get ⟨Nat.le_of_ble_eq_true rfl, Nat.le_of_ble_eq_true rfl⟩ [.int x4] [.int x3] (met_J2_get hw) rfl (Nat.le_of_ble_eq_true rfl) ⟨Nat.le_refl _, Nat.le_refl _⟩ dX0_pagesIn_59 rfl (v_kq (fun r_51 h1 hv => ?_))
        clear hw
        obtain ⟨e9, hw⟩ := hv
        refine v_heap e9 ?_
        clear e9
        obtain ⟨a_52, ea_52, hw⟩ := hw
        subst ea_52
        obtain ⟨fs_53, e_54, hw⟩ := hw
        refine v_cast (ci := 24) rfl q1313 dX0_pagesIn_62 e_54 ?_
        obtain ⟨fs_55, z_58, e_56, e_57, hw⟩ := hw
        refine v_getN in_X24 (ci := 24) rfl 1 (Nat.le_of_ble_eq_true rfl) q1322 rfl dX0_pagesIn_65 e_56 e_57 ?_
        refine v_goto (tgt := 72) dX0_pagesIn_68 (by decide) ?_
        refine v_sub [0, 1, 2, 4] rfl ?_
        exact b_X0_pagesIn_72 (fun q0 q1 z => ih q0 q1 z) x4 z_58 x3 hw
theorem e_X0_pagesIn {post : (Int32) → Prop}   {b0 : Nat} {x1 : Int32} {x2 : Int32} {h : AH}  (hw : w_X0_pagesIn post  b0 x1 x2 h) : VV l E X cX0_pagesIn RX0 "pagesIn" 5 r_X0_pagesIn (some .int) (vpi (fun (r : Int32) (h' : AH) => h' = h ∧ post r)) h 0 0 0 [(0, va_rf (some b0)), (1, .int x1), (2, .int x2)] [] := by
  refine v_iconst dX0_pagesIn_0 ic_0 ?_
  refine v_istore_n (lv1 := [(3, .int (nI 0)), (0, va_rf (some b0)), (1, .int x1), (2, .int x2)]) dX0_pagesIn_1 rfl (Nat.le_of_ble_eq_true rfl) rfl ?_
  refine v_iconst dX0_pagesIn_2 ic_0 ?_
  refine v_istore (lv1 := [(4, .int (nI 0)), (3, .int (nI 0)), (0, va_rf (some b0)), (1, .int x1), (2, .int x2)]) dX0_pagesIn_3 (Nat.le_of_ble_eq_true rfl) rfl ?_
  obtain ⟨n_65, hw⟩ := hw
  refine v_sub [2, 3, 4, 1, 0] rfl ?_
  exact b_X0_pagesIn_5 n_65 (nI 0) (nI 0) hw
theorem met_X0_pagesIn {post : (Int32) → Prop}   {b0 : Nat} {x1 : Int32} {x2 : Int32} {h : AH}  (hw : w_X0_pagesIn post  b0 x1 x2 h) : Mt l E yX0_pagesIn (ws_ yX0_pagesIn cX0_pagesIn 5 (some .int)) r_X0_pagesIn [va_rf (some b0), .int x1, .int x2] h (vpi (fun (r : Int32) (h' : AH) => h' = h ∧ post r)) := v_entry (by decide +kernel) (Nat.le_of_ble_eq_true rfl) rfl (fun _ => e_X0_pagesIn hw)
/-! X0_more -/
abbrev r_X0_more : Room := { frames := 4, cells := 0, slots := 0, locals := 88 }
theorem n_X0_more : vdn yX0_more 2 := ⟨by decide +kernel, by decide +kernel, by decide +kernel⟩
def w_X0_more_128 (post : (Int32) → (AH) → Prop) (k45 : (Int32) → (Int32) → (AH) → Prop) (b0 : Nat) (x1 : Int32) (x2 : Int32) (x4 : Int32) (s0 : Int32) (s1 : Int32) (h : AH) : Prop :=
 (∀ z_1 : Int32, z_1 = (s1 + s0) → (∀ z_2 : Int32, z_2 = x4 + (nI 1) → (k45 z_1 z_2 h)))
def w_X0_more_45 (post : (Int32) → (AH) → Prop) (b0 : Nat) (x1 : Int32) (x2 : Int32) : Nat → (Int32) → (Int32) → (AH) → Prop
 | 0, _, _, _ => False
 | n0 + 1, x3, x4, h =>
 (∃ (fs_3 : List Value) (r_6 : Option Nat), h b0 = some (.inr (0, fs_3)) ∧ fs_3[1]? = some (va_rf r_6) ∧ (∃ a_7 : Nat, r_6 = some a_7 ∧ (∃ (fs_8 : List Value) (r_11 : Option Nat), h a_7 = some (.inr (1, fs_8)) ∧ fs_8[8]? = some (va_rf r_11) ∧ (∃ a_12 : Nat, r_11 = some a_12 ∧ (∃ fs_64 : List Value, h a_12 = some (.inr (2, fs_64)) ∧ (w_J2_size (fun (z_13 : Int32) => ((z_13 ≤ x4 → (post x3 h)) ∧ (¬ z_13 ≤ x4 → (∃ (fs_18 : List Value) (r_21 : Option Nat), h b0 = some (.inr (0, fs_18)) ∧ fs_18[1]? = some (va_rf r_21) ∧ (∃ a_22 : Nat, r_21 = some a_22 ∧ (∃ (fs_23 : List Value) (r_26 : Option Nat), h a_22 = some (.inr (1, fs_23)) ∧ fs_23[8]? = some (va_rf r_26) ∧ (∃ a_27 : Nat, r_26 = some a_27 ∧ (∃ fs_62 : List Value, h a_27 = some (.inr (2, fs_62)) ∧ (w_J2_get (fun (r_28 : Option Nat) => (∃ a_29 : Nat, r_28 = some a_29 ∧ (∃ fs_30 : List Value, h a_29 = some (.inr (24, fs_30)) ∧ ((¬ x1 = (nI 1) → (∃ (fs_36 : List Value) (z_39 : Int32), h a_29 = some (.inr (24, fs_36)) ∧ fs_36[0]? = some (.int z_39) ∧ (∃ (fs_40 : List Value) (z_43 : Int32), h a_29 = some (.inr (24, fs_40)) ∧ fs_40[0]? = some (.int z_43) ∧ (∃ fs_56 : List Value, h b0 = some (.inr (0, fs_56)) ∧ (w_X0_pagesIn (fun (z_44 : Int32) => (∃ (fs_45 : List Value) (z_48 : Int32), h a_29 = some (.inr (24, fs_45)) ∧ fs_45[0]? = some (.int z_48) ∧ (∃ (fs_49 : List Value) (z_52 : Int32), h a_29 = some (.inr (24, fs_49)) ∧ fs_49[0]? = some (.int z_52) ∧ (∃ fs_54 : List Value, h b0 = some (.inr (0, fs_54)) ∧ (w_X0_pagesIn (fun (z_53 : Int32) => (w_X0_more_128 post (fun (q0 : Int32) (q1 : Int32) (q2 : AH) => w_X0_more_45 post b0 x1 x2 n0 q0 q1 q2) b0 x1 x2 x4 (z_44 - z_53) x3 h)) b0 (z_48 - x2) (z_52 - (nI 1)) h))))) b0 (z_39 + (nI 1)) (z_43 + x2) h))))) ∧ (x1 = (nI 1) → (∃ (fs_58 : List Value) (z_61 : Int32), h a_29 = some (.inr (24, fs_58)) ∧ fs_58[1]? = some (.int z_61) ∧ (w_X0_more_128 post (fun (q0 : Int32) (q1 : Int32) (q2 : AH) => w_X0_more_45 post b0 x1 x2 n0 q0 q1 q2) b0 x1 x2 x4 z_61 x3 h))))))) a_27 x4 h))))))))) a_12 h))))))
def w_X0_more_40 (post : (Int32) → (AH) → Prop) (b0 : Nat) (x1 : Int32) (x2 : Int32) (h : AH) : Prop :=
 (∃ n1 : Nat, (w_X0_more_45 post b0 x1 x2 n1 (nI 0) (nI 0) h))
def w_X0_more (post : (Int32) → (AH) → Prop) (b0 : Nat) (x1 : Int32) (x2 : Int32) (h : AH) : Prop :=
 (w_X0_in (fun (z_67 : Int32) => ((¬ z_67 = 0 → ((¬ x1 = 0 → (w_X0_more_40 post b0 x1 x2 h)) ∧ (x1 = 0 → (w_X0_in (fun (z_76 : Int32) => ((¬ z_76 = 0 → (w_X0_more_40 post b0 x1 x2 h)) ∧ (z_76 = 0 → (∃ fs_83 : List Value, h b0 = some (.inr (0, fs_83)) ∧ (w_X0_refuse (fun (z_81 : Int32) (h_82 : AH) => (post z_81 h_82)) b0 (-3) h))))) ((x2).toInt64) (lN 1) (lN 999))))) ∧ (z_67 = 0 → (∃ fs_87 : List Value, h b0 = some (.inr (0, fs_87)) ∧ (w_X0_refuse (fun (z_85 : Int32) (h_86 : AH) => (post z_85 h_86)) b0 (-2) h))))) ((x1).toInt64) (lN 0) (lN 1))
theorem b_X0_more_128 {post : (Int32) → (AH) → Prop}   {b0 : Nat} {x1 : Int32} {x2 : Int32} {k45 : (Int32) → (Int32) → (AH) → Prop}  (hk45 : ∀ (x3 : Int32) (x4 : Int32) (h : AH), k45 x3 x4 h → VV l E X cX0_more RX0 "more" 6 r_X0_more (some .int) (vpi (fun (r : Int32) (h' : AH) => post r h')) h 0 0 45 [(0, va_rf (some b0)), (1, .int x1), (2, .int x2), (3, .int x3), (4, .int x4)] []) (x4 : Int32) (s0 : Int32) (s1 : Int32) (h : AH) (hw : w_X0_more_128 post k45 b0 x1 x2 x4 s0 s1 h) : VV l E X cX0_more RX0 "more" 6 r_X0_more (some .int) (vpi (fun (r : Int32) (h' : AH) => post r h')) h 0 0 128 [(0, va_rf (some b0)), (1, .int x1), (2, .int x2), (4, .int x4)] [.int s0, .int s1] := by
  refine v_iadd dX0_more_128 ?_
  refine v_topi (fun z_1 e_1 => ?_)
  replace hw := hw z_1 e_1
  refine v_istore_n (lv1 := [(3, .int z_1), (0, va_rf (some b0)), (1, .int x1), (2, .int x2), (4, .int x4)]) dX0_more_129 rfl (Nat.le_of_ble_eq_true rfl) rfl ?_
  obtain ⟨z_2, e_2⟩ : ∃ z9 : Int32, z9 = x4 + (nI 1) := ⟨_, rfl⟩
  replace hw := hw z_2 e_2
  refine v_iinc (q := 4) (v := z_2) (lv1 := [(4, .int z_2), (3, .int z_1), (0, va_rf (some b0)), (1, .int x1), (2, .int x2)]) dX0_more_130 rfl (by rw [e_2, ic_1]) (Nat.le_of_ble_eq_true rfl) rfl ?_
  refine v_goto (tgt := 45) dX0_more_133 (by decide) ?_
  refine v_sub [2, 3, 4, 1, 0] rfl ?_
  exact hk45 z_1 z_2 h hw
theorem b_X0_more_45 {post : (Int32) → (AH) → Prop}   {b0 : Nat} {x1 : Int32} {x2 : Int32}    : ∀ (n0 : Nat) (x3 : Int32) (x4 : Int32) (h : AH), w_X0_more_45 post b0 x1 x2 n0 x3 x4 h → VV l E X cX0_more RX0 "more" 6 r_X0_more (some .int) (vpi (fun (r : Int32) (h' : AH) => post r h')) h 0 0 45 [(0, va_rf (some b0)), (1, .int x1), (2, .int x2), (3, .int x3), (4, .int x4)] [] := by
  intro n0
  induction n0 with
  | zero =>
    intro x3 x4 h hw
    exact hw.elim
  | succ n0 ih =>
    intro x3 x4 h hw
    refine v_iload (q := 4) dX0_more_45 rfl ?_
    refine v_aload_n (q := 0) dX0_more_47 rfl rfl ?_
    obtain ⟨fs_3, r_6, e_4, e_5, hw⟩ := hw
    refine v_get in_X0 (ci := 0) rfl 1 (Nat.le_of_ble_eq_true rfl) q319 rfl dX0_more_48 e_4 e_5 ?_
    obtain ⟨a_7, ea_7, hw⟩ := hw
    subst ea_7
    obtain ⟨fs_8, r_11, e_9, e_10, hw⟩ := hw
    refine v_getN in_X1 (ci := 1) rfl 8 (Nat.le_of_ble_eq_true rfl) q236 rfl dX0_more_51 e_9 e_10 ?_
    obtain ⟨a_12, ea_12, hw⟩ := hw
    subst ea_12
    obtain ⟨fs_64, e_65, hw⟩ := hw
    refine v_callV q413 q414 q415 q108 q416 (ci := 2) rfl e_65 n_J2_size ⟨Nat.le_of_ble_eq_true rfl, Nat.le_of_ble_eq_true rfl⟩ [] [.int x4] (met_J2_size hw) rfl (Nat.le_of_ble_eq_true rfl) ⟨Nat.le_refl _, Nat.le_refl _⟩ dX0_more_54 rfl (v_ki (fun z_13 h1 hv => ?_))
    clear hw
    obtain ⟨e9, hw⟩ := hv
    refine v_heap e9 ?_
    clear e9
    obtain ⟨hw_16, hw_17⟩ := hw
    refine v_icmp_ge (tgt := 136) dX0_more_57 (by decide) (fun c_14 => ?_) (fun c_15 => ?_)
    · have hw := hw_16 c_14
      refine v_iload_n (q := 3) dX0_more_136 rfl rfl ?_
      exact v_iret dX0_more_137 rfl ⟨_, rfl, hw⟩
    · have hw := hw_17 c_15
      refine v_aload_n (q := 0) dX0_more_60 rfl rfl ?_
      obtain ⟨fs_18, r_21, e_19, e_20, hw⟩ := hw
      refine v_get in_X0 (ci := 0) rfl 1 (Nat.le_of_ble_eq_true rfl) q319 rfl dX0_more_61 e_19 e_20 ?_
      obtain ⟨a_22, ea_22, hw⟩ := hw
      subst ea_22
      obtain ⟨fs_23, r_26, e_24, e_25, hw⟩ := hw
      refine v_getN in_X1 (ci := 1) rfl 8 (Nat.le_of_ble_eq_true rfl) q236 rfl dX0_more_64 e_24 e_25 ?_
      refine v_iload (q := 4) dX0_more_67 rfl ?_
      obtain ⟨a_27, ea_27, hw⟩ := hw
      subst ea_27
      obtain ⟨fs_62, e_63, hw⟩ := hw
      refine v_callV q577 q578 q579 q108 q580 (ci := 2) rfl e_63 n_J2_get ⟨Nat.le_of_ble_eq_true rfl, Nat.le_of_ble_eq_true rfl⟩ [.int x4] [] (met_J2_get hw) rfl (Nat.zero_le _) ⟨Nat.le_refl _, Nat.le_refl _⟩ dX0_more_69 rfl (v_kq (fun r_28 h1 hv => ?_))
      clear hw
      obtain ⟨e9, hw⟩ := hv
      refine v_heap e9 ?_
      clear e9
      obtain ⟨a_29, ea_29, hw⟩ := hw
      subst ea_29
      obtain ⟨fs_30, e_31, hw⟩ := hw
      refine v_cast (ci := 24) rfl q1313 dX0_more_72 e_31 ?_
      refine v_astore (lv1 := [(5, va_rf (some a_29)), (0, va_rf (some b0)), (1, .int x1), (2, .int x2), (3, .int x3), (4, .int x4)]) dX0_more_75 (Nat.le_of_ble_eq_true rfl) rfl ?_
      refine v_iload_n (q := 4) dX0_more_77 rfl rfl ?_
      refine v_iload_n (q := 2) dX0_more_78 rfl rfl ?_
      refine v_iconst dX0_more_79 ic_1 ?_
      obtain ⟨hw_34, hw_35⟩ := hw
      refine v_icmp_ne (tgt := 91) dX0_more_80 (by decide) (fun c_32 => ?_) (fun c_33 => ?_)
      · have hw := hw_34 c_32
        refine v_aload_n (q := 1) dX0_more_91 rfl rfl ?_
        refine v_aload (q := 0) dX0_more_92 rfl ?_
        obtain ⟨fs_36, z_39, e_37, e_38, hw⟩ := hw
        refine v_getN in_X24 (ci := 24) rfl 0 (Nat.le_of_ble_eq_true rfl) q1320 rfl dX0_more_94 e_37 e_38 ?_
        refine v_iconst dX0_more_97 ic_1 ?_
        refine v_iadd dX0_more_98 ?_
        refine v_aload (q := 0) dX0_more_99 rfl ?_
        obtain ⟨fs_40, z_43, e_41, e_42, hw⟩ := hw
        refine v_getN in_X24 (ci := 24) rfl 0 (Nat.le_of_ble_eq_true rfl) q1320 rfl dX0_more_101 e_41 e_42 ?_
        refine v_iload_n (q := 3) dX0_more_104 rfl rfl ?_
        refine v_iadd dX0_more_105 ?_
        obtain ⟨fs_56, e_57, hw⟩ := hw
        refine v_callV q1337 q1339 qs46 q104 q1340 (ci := 0) rfl e_57 n_X0_pagesIn ⟨Nat.le_of_ble_eq_true rfl, Nat.le_of_ble_eq_true rfl⟩ [.int (z_39 + (nI 1)), .int (z_43 + x2)] [.int x3] (met_X0_pagesIn hw) rfl (Nat.le_of_ble_eq_true rfl) ⟨Nat.le_refl _, Nat.le_refl _⟩ dX0_more_106 rfl (v_ki (fun z_44 h1 hv => ?_))
        clear hw
        obtain ⟨e9, hw⟩ := hv
        refine v_heap e9 ?_
        clear e9
        refine v_aload_n (q := 1) dX0_more_109 rfl rfl ?_
        refine v_aload (q := 0) dX0_more_110 rfl ?_
        obtain ⟨fs_45, z_48, e_46, e_47, hw⟩ := hw
        refine v_getN in_X24 (ci := 24) rfl 0 (Nat.le_of_ble_eq_true rfl) q1320 rfl dX0_more_112 e_46 e_47 ?_
        refine v_iload_n (q := 3) dX0_more_115 rfl rfl ?_
        refine v_isub dX0_more_116 ?_
        refine v_aload (q := 0) dX0_more_117 rfl ?_
        obtain ⟨fs_49, z_52, e_50, e_51, hw⟩ := hw
        refine v_getN in_X24 (ci := 24) rfl 0 (Nat.le_of_ble_eq_true rfl) q1320 rfl dX0_more_119 e_50 e_51 ?_
        refine v_iconst dX0_more_122 ic_1 ?_
        refine v_isub dX0_more_123 ?_
        obtain ⟨fs_54, e_55, hw⟩ := hw
        refine v_callV q1337 q1339 qs46 q104 q1340 (ci := 0) rfl e_55 n_X0_pagesIn ⟨Nat.le_of_ble_eq_true rfl, Nat.le_of_ble_eq_true rfl⟩ [.int (z_48 - x2), .int (z_52 - (nI 1))] [.int z_44, .int x3] (met_X0_pagesIn hw) rfl (Nat.le_of_ble_eq_true rfl) ⟨Nat.le_refl _, Nat.le_refl _⟩ dX0_more_124 rfl (v_ki (fun z_53 h1 hv => ?_))
        clear hw
        obtain ⟨e9, hw⟩ := hv
        refine v_heap e9 ?_
        clear e9
        refine v_isub dX0_more_127 ?_
        refine v_sub [1, 2, 3, 5] rfl ?_
        exact b_X0_more_128 (fun q0 q1 q2 z => ih q0 q1 q2 z) x4 (z_44 - z_53) x3 h hw
      · have hw := hw_35 c_33
        refine v_aload (q := 0) dX0_more_83 rfl ?_
        obtain ⟨fs_58, z_61, e_59, e_60, hw⟩ := hw
        refine v_getN in_X24 (ci := 24) rfl 1 (Nat.le_of_ble_eq_true rfl) q1322 rfl dX0_more_85 e_59 e_60 ?_
        refine v_goto (tgt := 128) dX0_more_88 (by decide) ?_
        refine v_sub [1, 2, 3, 5] rfl ?_
        exact b_X0_more_128 (fun q0 q1 q2 z => ih q0 q1 q2 z) x4 z_61 x3 h hw
theorem b_X0_more_40 {post : (Int32) → (AH) → Prop}   {b0 : Nat} {x1 : Int32} {x2 : Int32}    (h : AH) (hw : w_X0_more_40 post b0 x1 x2 h) : VV l E X cX0_more RX0 "more" 6 r_X0_more (some .int) (vpi (fun (r : Int32) (h' : AH) => post r h')) h 0 0 40 [(0, va_rf (some b0)), (1, .int x1), (2, .int x2)] [] := by
  refine v_iconst dX0_more_40 ic_0 ?_
  refine v_istore_n (lv1 := [(3, .int (nI 0)), (0, va_rf (some b0)), (1, .int x1), (2, .int x2)]) dX0_more_41 rfl (Nat.le_of_ble_eq_true rfl) rfl ?_
  refine v_iconst dX0_more_42 ic_0 ?_
  refine v_istore (lv1 := [(4, .int (nI 0)), (3, .int (nI 0)), (0, va_rf (some b0)), (1, .int x1), (2, .int x2)]) dX0_more_43 (Nat.le_of_ble_eq_true rfl) rfl ?_
  obtain ⟨n_66, hw⟩ := hw
  refine v_sub [2, 3, 4, 1, 0] rfl ?_
  exact b_X0_more_45 n_66 (nI 0) (nI 0) h hw
theorem e_X0_more {post : (Int32) → (AH) → Prop}   {b0 : Nat} {x1 : Int32} {x2 : Int32} {h : AH}  (hw : w_X0_more post  b0 x1 x2 h) : VV l E X cX0_more RX0 "more" 6 r_X0_more (some .int) (vpi (fun (r : Int32) (h' : AH) => post r h')) h 0 0 0 [(0, va_rf (some b0)), (1, .int x1), (2, .int x2)] [] := by
  refine v_iload_n (q := 1) dX0_more_0 rfl rfl ?_
  refine v_i2l dX0_more_1 ?_
  refine v_lconst (v := lN 0) dX0_more_2 rfl ?_
  refine v_lconst (v := lN 1) dX0_more_3 rfl ?_
  refine v_callS q393 q394 q104 q395 n_X0_in ⟨Nat.le_of_ble_eq_true rfl, Nat.le_of_ble_eq_true rfl⟩ [.long ((x1).toInt64), .long (lN 0), .long (lN 1)] [] (met_X0_in hw) rfl (Nat.zero_le _) ⟨Nat.le_refl _, Nat.le_refl _⟩ dX0_more_4 rfl (v_ki (fun z_67 h1 hv => ?_))
  clear hw
  obtain ⟨e9, hw⟩ := hv
  refine v_heap e9 ?_
  clear e9
  obtain ⟨hw_70, hw_71⟩ := hw
  refine v_if_ne (tgt := 17) dX0_more_7 (by decide) (fun c_68 => ?_) (fun c_69 => ?_)
  · have hw := hw_70 c_68
    refine v_iload_n (q := 1) dX0_more_17 rfl rfl ?_
    obtain ⟨hw_74, hw_75⟩ := hw
    refine v_if_ne (tgt := 40) dX0_more_18 (by decide) (fun c_72 => ?_) (fun c_73 => ?_)
    · have hw := hw_74 c_72
      refine v_sub [0, 1, 2] rfl ?_
      exact b_X0_more_40 h hw
    · have hw := hw_75 c_73
      refine v_iload_n (q := 2) dX0_more_21 rfl rfl ?_
      refine v_i2l dX0_more_22 ?_
      refine v_lconst (v := lN 1) dX0_more_23 rfl ?_
      refine v_ldc2 (v := (lN 999)) dX0_more_24 q1312 ?_
      refine v_callS q393 q394 q104 q395 n_X0_in ⟨Nat.le_of_ble_eq_true rfl, Nat.le_of_ble_eq_true rfl⟩ [.long ((x2).toInt64), .long (lN 1), .long (lN 999)] [] (met_X0_in hw) rfl (Nat.zero_le _) ⟨Nat.le_refl _, Nat.le_refl _⟩ dX0_more_27 rfl (v_ki (fun z_76 h1 hv => ?_))
      clear hw
      obtain ⟨e9, hw⟩ := hv
      refine v_heap e9 ?_
      clear e9
      obtain ⟨hw_79, hw_80⟩ := hw
      refine v_if_ne (tgt := 40) dX0_more_30 (by decide) (fun c_77 => ?_) (fun c_78 => ?_)
      · have hw := hw_79 c_77
        refine v_sub [0, 1, 2] rfl ?_
        exact b_X0_more_40 h hw
      · have hw := hw_80 c_78
        refine v_aload_n (q := 0) dX0_more_33 rfl rfl ?_
        refine v_bipush dX0_more_34 bp_m3 ?_
        obtain ⟨fs_83, e_84, hw⟩ := hw
        refine v_callV q396 q398 qs0 q104 q399 (ci := 0) rfl e_84 n_X0_refuse ⟨Nat.le_of_ble_eq_true rfl, Nat.le_of_ble_eq_true rfl⟩ [.int (-3)] [] (met_X0_refuse hw) rfl (Nat.zero_le _) ⟨Nat.le_refl _, Nat.le_refl _⟩ dX0_more_36 rfl (v_ki (fun z_81 h_82 hv => ?_))
        clear hw
        have hw := hv
        clear hv
        exact v_iret dX0_more_39 rfl ⟨_, rfl, hw⟩
  · have hw := hw_71 c_69
    refine v_aload_n (q := 0) dX0_more_10 rfl rfl ?_
    refine v_bipush dX0_more_11 bp_m2 ?_
    obtain ⟨fs_87, e_88, hw⟩ := hw
    refine v_callV q396 q398 qs0 q104 q399 (ci := 0) rfl e_88 n_X0_refuse ⟨Nat.le_of_ble_eq_true rfl, Nat.le_of_ble_eq_true rfl⟩ [.int (-2)] [] (met_X0_refuse hw) rfl (Nat.zero_le _) ⟨Nat.le_refl _, Nat.le_refl _⟩ dX0_more_13 rfl (v_ki (fun z_85 h_86 hv => ?_))
    clear hw
    have hw := hv
    clear hv
    exact v_iret dX0_more_16 rfl ⟨_, rfl, hw⟩
theorem met_X0_more {post : (Int32) → (AH) → Prop}   {b0 : Nat} {x1 : Int32} {x2 : Int32} {h : AH}  (hw : w_X0_more post  b0 x1 x2 h) : Mt l E yX0_more (ws_ yX0_more cX0_more 6 (some .int)) r_X0_more [va_rf (some b0), .int x1, .int x2] h (vpi (fun (r : Int32) (h' : AH) => post r h')) := v_entry (by decide +kernel) (Nat.le_of_ble_eq_true rfl) rfl (fun _ => e_X0_more hw)
/-! X0_free -/
abbrev r_X0_free : Room := { frames := 8, cells := 2, slots := 66, locals := 228 }
theorem n_X0_free : vdn yX0_free 2 := ⟨by decide +kernel, by decide +kernel, by decide +kernel⟩
def w_X0_free_20 (post : (Int32) → (AH) → Prop) (b0 : Nat) (x1 : Int32) (x2 : Int32) (h : AH) (k : Nat) (n : Nat) : Prop :=
 (∃ fs_3 : List Value, h b0 = some (.inr (0, fs_3)) ∧ (w_X0_refuse (fun (z_1 : Int32) (h_2 : AH) => (post z_1 h_2)) b0 (-3) h))
def w_X0_free (post : (Int32) → (AH) → Prop) (b0 : Nat) (x1 : Int32) (x2 : Int32) (h : AH) : Prop :=
 (w_X0_isDay (fun (z_5 : Int32) => ((z_5 = 0 → (w_X0_free_20 post b0 x1 x2 h 0 0)) ∧ (¬ z_5 = 0 → (w_X0_in (fun (z_10 : Int32) => ((¬ z_10 = 0 → (∃ (fs_15 : List Value) (r_18 : Option Nat), h b0 = some (.inr (0, fs_15)) ∧ fs_15[1]? = some (va_rf r_18) ∧ (∃ a_19 : Nat, r_18 = some a_19 ∧ (∃ (fs_20 : List Value) (r_23 : Option Nat), h a_19 = some (.inr (1, fs_20)) ∧ fs_20[10]? = some (va_rf r_23) ∧ (∃ a_24 : Nat, r_23 = some a_24 ∧ (∃ fs_71 : List Value, h a_24 = some (.inr (2, fs_71)) ∧ (w_J2_size (fun (z_25 : Int32) => ((¬ z_25 = (nI 8) → (∃ (fs_30 : List Value) (r_33 : Option Nat), h b0 = some (.inr (0, fs_30)) ∧ fs_30[1]? = some (va_rf r_33) ∧ (∃ a_34 : Nat, r_33 = some a_34 ∧ (∃ (fs_35 : List Value) (r_38 : Option Nat), h a_34 = some (.inr (1, fs_35)) ∧ fs_35[10]? = some (va_rf r_38) ∧ (0 + 1 ≤ 2 ∧ 0 + 2 ≤ 66 ∧ ∀ a_39 : Nat, h a_39 = none → ∀ h_41 : AH, h_41 = va_up h a_39 (some (.inr (24, dfX24))) → (w_X24_init (fun (h_46 : AH) => (∃ a_47 : Nat, r_38 = some a_47 ∧ (∃ fs_65 : List Value, h_46 a_47 = some (.inr (2, fs_65)) ∧ ((0 + 1) + 1 ≤ 2 ∧ (0 + 2) + 63 ≤ 66 ∧ (w_J2_add (fun (z_48 : Int32) (h_49 : AH) => (∃ (fs_50 : List Value) (r_53 : Option Nat), h_49 b0 = some (.inr (0, fs_50)) ∧ fs_50[1]? = some (va_rf r_53) ∧ (∃ a_54 : Nat, r_53 = some a_54 ∧ (∃ (fs_55 : List Value) (r_58 : Option Nat), h_49 a_54 = some (.inr (1, fs_55)) ∧ fs_55[10]? = some (va_rf r_58) ∧ (∃ a_59 : Nat, r_58 = some a_59 ∧ (∃ fs_61 : List Value, h_49 a_59 = some (.inr (2, fs_61)) ∧ (w_J2_size (fun (z_60 : Int32) => (post z_60 h_49)) a_59 h_49))))))) a_47 (some a_39) h_46))))) a_39 x1 x2 h_41)))))) ∧ (z_25 = (nI 8) → (∃ fs_69 : List Value, h b0 = some (.inr (0, fs_69)) ∧ (w_X0_refuse (fun (z_67 : Int32) (h_68 : AH) => (post z_67 h_68)) b0 (-4) h))))) a_24 h))))))) ∧ (z_10 = 0 → (w_X0_free_20 post b0 x1 x2 h 0 0)))) ((x2).toInt64) ((x1).toInt64) (lN 9999))))) x1)
theorem b_X0_free_20 {post : (Int32) → (AH) → Prop}   {b0 : Nat} {x1 : Int32} {x2 : Int32}    (h : AH) (k : Nat) (n : Nat) (hw : w_X0_free_20 post b0 x1 x2 h k n) : VV l E X cX0_free RX0 "free" 3 r_X0_free (some .int) (vpi (fun (r : Int32) (h' : AH) => post r h')) h k n 20 [(0, va_rf (some b0)), (1, .int x1), (2, .int x2)] [] := by
  refine v_aload_n (q := 0) dX0_free_20 rfl rfl ?_
  refine v_bipush dX0_free_21 bp_m3 ?_
  obtain ⟨fs_3, e_4, hw⟩ := hw
  refine v_callV0 q396 q398 qs0 q104 q399 (ci := 0) rfl e_4 n_X0_refuse ⟨Nat.le_of_ble_eq_true rfl, Nat.le_of_ble_eq_true rfl⟩ [.int (-3)] [] (met_X0_refuse hw) rfl (Nat.zero_le _) rfl rfl dX0_free_23 rfl (v_ki (fun z_1 h_2 hv => ?_))
  clear hw
  have hw := hv
  clear hv
  exact v_iret dX0_free_26 rfl ⟨_, rfl, hw⟩
theorem e_X0_free {post : (Int32) → (AH) → Prop}   {b0 : Nat} {x1 : Int32} {x2 : Int32} {h : AH}  (hw : w_X0_free post  b0 x1 x2 h) : VV l E X cX0_free RX0 "free" 3 r_X0_free (some .int) (vpi (fun (r : Int32) (h' : AH) => post r h')) h 0 0 0 [(0, va_rf (some b0)), (1, .int x1), (2, .int x2)] [] := by
  refine v_iload_n (q := 1) dX0_free_0 rfl rfl ?_
  refine v_callS0 q408 q409 q104 q410 n_X0_isDay ⟨Nat.le_of_ble_eq_true rfl, Nat.le_of_ble_eq_true rfl⟩ [.int x1] [] (met_X0_isDay hw) rfl (Nat.zero_le _) rfl rfl dX0_free_1 rfl (v_ki (fun z_5 h1 hv => ?_))
  clear hw
  obtain ⟨e9, hw⟩ := hv
  refine v_heap e9 ?_
  clear e9
  obtain ⟨hw_8, hw_9⟩ := hw
  refine v_if_eq (tgt := 20) dX0_free_4 (by decide) (fun c_6 => ?_) (fun c_7 => ?_)
  · have hw := hw_8 c_6
    refine v_sub [0, 1, 2] rfl ?_
    exact b_X0_free_20 h 0 0 hw
  · have hw := hw_9 c_7
    refine v_iload_n (q := 2) dX0_free_7 rfl rfl ?_
    refine v_i2l dX0_free_8 ?_
    refine v_iload_n (q := 1) dX0_free_9 rfl rfl ?_
    refine v_i2l dX0_free_10 ?_
    refine v_ldc2 (v := (lN 9999)) dX0_free_11 q411 ?_
    refine v_callS0 q393 q394 q104 q395 n_X0_in ⟨Nat.le_of_ble_eq_true rfl, Nat.le_of_ble_eq_true rfl⟩ [.long ((x2).toInt64), .long ((x1).toInt64), .long (lN 9999)] [] (met_X0_in hw) rfl (Nat.zero_le _) rfl rfl dX0_free_14 rfl (v_ki (fun z_10 h1 hv => ?_))
    clear hw
    obtain ⟨e9, hw⟩ := hv
    refine v_heap e9 ?_
    clear e9
    obtain ⟨hw_13, hw_14⟩ := hw
    refine v_if_ne (tgt := 27) dX0_free_17 (by decide) (fun c_11 => ?_) (fun c_12 => ?_)
    · have hw := hw_13 c_11
      refine v_aload_n (q := 0) dX0_free_27 rfl rfl ?_
      obtain ⟨fs_15, r_18, e_16, e_17, hw⟩ := hw
      refine v_get in_X0 (ci := 0) rfl 1 (Nat.le_of_ble_eq_true rfl) q319 rfl dX0_free_28 e_16 e_17 ?_
      obtain ⟨a_19, ea_19, hw⟩ := hw
      subst ea_19
      obtain ⟨fs_20, r_23, e_21, e_22, hw⟩ := hw
      refine v_getN in_X1 (ci := 1) rfl 10 (Nat.le_of_ble_eq_true rfl) q240 rfl dX0_free_31 e_21 e_22 ?_
      obtain ⟨a_24, ea_24, hw⟩ := hw
      subst ea_24
      obtain ⟨fs_71, e_72, hw⟩ := hw
      refine v_callV0 q413 q414 q415 q108 q416 (ci := 2) rfl e_72 n_J2_size ⟨Nat.le_of_ble_eq_true rfl, Nat.le_of_ble_eq_true rfl⟩ [] [] (met_J2_size hw) rfl (Nat.zero_le _) rfl rfl dX0_free_34 rfl (v_ki (fun z_25 h1 hv => ?_))
      clear hw
      obtain ⟨e9, hw⟩ := hv
      refine v_heap e9 ?_
      clear e9
      refine v_bipush dX0_free_37 bp_8 ?_
      obtain ⟨hw_28, hw_29⟩ := hw
      refine v_icmp_ne (tgt := 49) dX0_free_39 (by decide) (fun c_26 => ?_) (fun c_27 => ?_)
      · have hw := hw_28 c_26
        refine v_aload_n (q := 0) dX0_free_49 rfl rfl ?_
        obtain ⟨fs_30, r_33, e_31, e_32, hw⟩ := hw
        refine v_get in_X0 (ci := 0) rfl 1 (Nat.le_of_ble_eq_true rfl) q319 rfl dX0_free_50 e_31 e_32 ?_
        obtain ⟨a_34, ea_34, hw⟩ := hw
        subst ea_34
        obtain ⟨fs_35, r_38, e_36, e_37, hw⟩ := hw
        refine v_getN in_X1 (ci := 1) rfl 10 (Nat.le_of_ble_eq_true rfl) q240 rfl dX0_free_53 e_36 e_37 ?_
        obtain ⟨e_42, e_43, hw⟩ := hw
        refine v_new in_X24 (ci := 24) rfl tyX24 tyX24_ok q1313 q1314 q140 dfX24_ok e_42 e_43 dX0_free_56 (fun a_39 e_40 => ?_)
        obtain ⟨h_41, eh_41⟩ : ∃ z9 : AH, z9 = va_up h a_39 (some (.inr (24, dfX24))) := ⟨_, rfl⟩
        replace hw := hw a_39 e_40 h_41 eh_41
        rw [← eh_41]
        refine v_dup dX0_free_59 (v_rf1 _) ?_
        refine v_iload_n (q := 1) dX0_free_60 rfl rfl ?_
        refine v_iload_n (q := 2) dX0_free_61 rfl rfl ?_
        refine v_callI0 q1315 q1316 q140 q1317 rfl n_X24_init ⟨Nat.le_of_ble_eq_true rfl, Nat.le_of_ble_eq_true rfl⟩ [.int x1, .int x2] [va_rf (some a_39), va_rf r_38] (met_X24_init hw) rfl (by simp only [List.map_cons, List.map_nil, List.sum_cons, List.sum_nil, v_rf1, v_cI, v_cJ]; decide) rfl rfl dX0_free_62 rfl (v_kv (fun h_46 hv => ?_))
        clear hw
        have hw := hv
        clear hv
        obtain ⟨a_47, ea_47, hw⟩ := hw
        subst ea_47
        obtain ⟨fs_65, e_66, hw⟩ := hw
        obtain ⟨e_63, e_64, hw⟩ := hw
        refine v_callV q445 q446 q447 q108 q448 (ci := 2) rfl e_66 n_J2_add ⟨Nat.le_of_ble_eq_true rfl, Nat.le_of_ble_eq_true rfl⟩ [va_rf (some a_39)] [] (met_J2_add hw) rfl (Nat.zero_le _) ⟨e_63, e_64⟩ dX0_free_65 rfl (v_ki (fun z_48 h_49 hv => ?_))
        clear hw
        have hw := hv
        clear hv
        refine v_pop dX0_free_68 rfl ?_
        refine v_aload_n (q := 0) dX0_free_69 rfl rfl ?_
        obtain ⟨fs_50, r_53, e_51, e_52, hw⟩ := hw
        refine v_get in_X0 (ci := 0) rfl 1 (Nat.le_of_ble_eq_true rfl) q319 rfl dX0_free_70 e_51 e_52 ?_
        obtain ⟨a_54, ea_54, hw⟩ := hw
        subst ea_54
        obtain ⟨fs_55, r_58, e_56, e_57, hw⟩ := hw
        refine v_getN in_X1 (ci := 1) rfl 10 (Nat.le_of_ble_eq_true rfl) q240 rfl dX0_free_73 e_56 e_57 ?_
        obtain ⟨a_59, ea_59, hw⟩ := hw
        subst ea_59
        obtain ⟨fs_61, e_62, hw⟩ := hw
        refine v_callV0 q413 q414 q415 q108 q416 (ci := 2) rfl e_62 n_J2_size ⟨Nat.le_of_ble_eq_true rfl, Nat.le_of_ble_eq_true rfl⟩ [] [] (met_J2_size hw) rfl (Nat.zero_le _) rfl rfl dX0_free_76 rfl (v_ki (fun z_60 h1 hv => ?_))
        clear hw
        obtain ⟨e9, hw⟩ := hv
        refine v_heap e9 ?_
        clear e9
        exact v_iret dX0_free_79 rfl ⟨_, rfl, hw⟩
      · have hw := hw_29 c_27
        refine v_aload_n (q := 0) dX0_free_42 rfl rfl ?_
        refine v_bipush dX0_free_43 bp_m4 ?_
        obtain ⟨fs_69, e_70, hw⟩ := hw
        refine v_callV0 q396 q398 qs0 q104 q399 (ci := 0) rfl e_70 n_X0_refuse ⟨Nat.le_of_ble_eq_true rfl, Nat.le_of_ble_eq_true rfl⟩ [.int (-4)] [] (met_X0_refuse hw) rfl (Nat.zero_le _) rfl rfl dX0_free_45 rfl (v_ki (fun z_67 h_68 hv => ?_))
        clear hw
        have hw := hv
        clear hv
        exact v_iret dX0_free_48 rfl ⟨_, rfl, hw⟩
    · have hw := hw_14 c_12
      refine v_sub [0, 1, 2] rfl ?_
      exact b_X0_free_20 h 0 0 hw
theorem met_X0_free {post : (Int32) → (AH) → Prop}   {b0 : Nat} {x1 : Int32} {x2 : Int32} {h : AH}  (hw : w_X0_free post  b0 x1 x2 h) : Mt l E yX0_free (ws_ yX0_free cX0_free 3 (some .int)) r_X0_free [va_rf (some b0), .int x1, .int x2] h (vpi (fun (r : Int32) (h' : AH) => post r h')) := v_entry (by decide +kernel) (Nat.le_of_ble_eq_true rfl) rfl (fun _ => e_X0_free hw)
/-! X0_isFree -/
abbrev r_X0_isFree : Room := { frames := 3, cells := 0, slots := 0, locals := 64 }
theorem n_X0_isFree : vdn yX0_isFree 1 := ⟨by decide +kernel, by decide +kernel, by decide +kernel⟩
def w_X0_isFree_2 (post : (Int32) → Prop) (b0 : Nat) (x1 : Int32) (h : AH) : Nat → (Int32) → Prop
 | 0, _ => False
 | n0 + 1, x2 =>
 (∃ (fs_1 : List Value) (r_4 : Option Nat), h b0 = some (.inr (0, fs_1)) ∧ fs_1[1]? = some (va_rf r_4) ∧ (∃ a_5 : Nat, r_4 = some a_5 ∧ (∃ (fs_6 : List Value) (r_9 : Option Nat), h a_5 = some (.inr (1, fs_6)) ∧ fs_6[10]? = some (va_rf r_9) ∧ (∃ a_10 : Nat, r_9 = some a_10 ∧ (∃ fs_62 : List Value, h a_10 = some (.inr (2, fs_62)) ∧ (w_J2_size (fun (z_11 : Int32) => ((z_11 ≤ x2 → (post (nI 0))) ∧ (¬ z_11 ≤ x2 → (∃ (fs_16 : List Value) (r_19 : Option Nat), h b0 = some (.inr (0, fs_16)) ∧ fs_16[1]? = some (va_rf r_19) ∧ (∃ a_20 : Nat, r_19 = some a_20 ∧ (∃ (fs_21 : List Value) (r_24 : Option Nat), h a_20 = some (.inr (1, fs_21)) ∧ fs_21[10]? = some (va_rf r_24) ∧ (∃ a_25 : Nat, r_24 = some a_25 ∧ (∃ fs_60 : List Value, h a_25 = some (.inr (2, fs_60)) ∧ (w_J2_get (fun (r_26 : Option Nat) => (∃ a_27 : Nat, r_26 = some a_27 ∧ (∃ fs_28 : List Value, h a_27 = some (.inr (24, fs_28)) ∧ (∃ (fs_30 : List Value) (z_33 : Int32), h a_27 = some (.inr (24, fs_30)) ∧ fs_30[0]? = some (.int z_33) ∧ (∃ (fs_34 : List Value) (r_37 : Option Nat), h b0 = some (.inr (0, fs_34)) ∧ fs_34[1]? = some (va_rf r_37) ∧ (∃ a_38 : Nat, r_37 = some a_38 ∧ (∃ (fs_39 : List Value) (r_42 : Option Nat), h a_38 = some (.inr (1, fs_39)) ∧ fs_39[10]? = some (va_rf r_42) ∧ (∃ a_43 : Nat, r_42 = some a_43 ∧ (∃ fs_58 : List Value, h a_43 = some (.inr (2, fs_58)) ∧ (w_J2_get (fun (r_44 : Option Nat) => (∃ a_45 : Nat, r_44 = some a_45 ∧ (∃ fs_46 : List Value, h a_45 = some (.inr (24, fs_46)) ∧ (∃ (fs_48 : List Value) (z_51 : Int32), h a_45 = some (.inr (24, fs_48)) ∧ fs_48[1]? = some (.int z_51) ∧ (w_X0_in (fun (z_52 : Int32) => ((z_52 = 0 → (∀ z_57 : Int32, z_57 = x2 + (nI 1) → (w_X0_isFree_2 post b0 x1 h n0 z_57))) ∧ (¬ z_52 = 0 → (post (nI 1))))) ((x1).toInt64) ((z_33).toInt64) ((z_51).toInt64)))))) a_43 x2 h)))))))))) a_25 x2 h))))))))) a_10 h))))))
def w_X0_isFree (post : (Int32) → Prop) (b0 : Nat) (x1 : Int32) (h : AH) : Prop :=
 (∃ n1 : Nat, (w_X0_isFree_2 post b0 x1 h n1 (nI 0)))
theorem b_X0_isFree_2 {post : (Int32) → Prop}   {b0 : Nat} {x1 : Int32} {h : AH}    : ∀ (n0 : Nat) (x2 : Int32), w_X0_isFree_2 post b0 x1 h n0 x2 → VV l E X cX0_isFree RX0 "isFree" 3 r_X0_isFree (some .boolean) (vpi (fun (r : Int32) (h' : AH) => h' = h ∧ post r)) h 0 0 2 [(0, va_rf (some b0)), (1, .int x1), (2, .int x2)] [] := by
  intro n0
  induction n0 with
  | zero =>
    intro x2 hw
    exact hw.elim
  | succ n0 ih =>
    intro x2 hw
    refine v_iload_n (q := 2) dX0_isFree_2 rfl rfl ?_
    refine v_aload_n (q := 0) dX0_isFree_3 rfl rfl ?_
    obtain ⟨fs_1, r_4, e_2, e_3, hw⟩ := hw
    refine v_get in_X0 (ci := 0) rfl 1 (Nat.le_of_ble_eq_true rfl) q319 rfl dX0_isFree_4 e_2 e_3 ?_
    obtain ⟨a_5, ea_5, hw⟩ := hw
    subst ea_5
    obtain ⟨fs_6, r_9, e_7, e_8, hw⟩ := hw
    refine v_getN in_X1 (ci := 1) rfl 10 (Nat.le_of_ble_eq_true rfl) q240 rfl dX0_isFree_7 e_7 e_8 ?_
    obtain ⟨a_10, ea_10, hw⟩ := hw
    subst ea_10
    obtain ⟨fs_62, e_63, hw⟩ := hw
    refine v_callV q413 q414 q415 q108 q416 (ci := 2) rfl e_63 n_J2_size ⟨Nat.le_of_ble_eq_true rfl, Nat.le_of_ble_eq_true rfl⟩ [] [.int x2] (met_J2_size hw) rfl (Nat.le_of_ble_eq_true rfl) ⟨Nat.le_refl _, Nat.le_refl _⟩ dX0_isFree_10 rfl (v_ki (fun z_11 h1 hv => ?_))
    clear hw
    obtain ⟨e9, hw⟩ := hv
    refine v_heap e9 ?_
    clear e9
    obtain ⟨hw_14, hw_15⟩ := hw
    refine v_icmp_ge (tgt := 68) dX0_isFree_13 (by decide) (fun c_12 => ?_) (fun c_13 => ?_)
    · have hw := hw_14 c_12
      refine v_iconst dX0_isFree_68 ic_0 ?_
      exact v_zret dX0_isFree_69 rfl rfl ⟨_, rfl, rfl, hw⟩
    · have hw := hw_15 c_13
      refine v_iload_n (q := 1) dX0_isFree_16 rfl rfl ?_
      refine v_i2l dX0_isFree_17 ?_
      refine v_aload_n (q := 0) dX0_isFree_18 rfl rfl ?_
      obtain ⟨fs_16, r_19, e_17, e_18, hw⟩ := hw
      refine v_get in_X0 (ci := 0) rfl 1 (Nat.le_of_ble_eq_true rfl) q319 rfl dX0_isFree_19 e_17 e_18 ?_
      obtain ⟨a_20, ea_20, hw⟩ := hw
      subst ea_20
      obtain ⟨fs_21, r_24, e_22, e_23, hw⟩ := hw
      refine v_getN in_X1 (ci := 1) rfl 10 (Nat.le_of_ble_eq_true rfl) q240 rfl dX0_isFree_22 e_22 e_23 ?_
      refine v_iload_n (q := 2) dX0_isFree_25 rfl rfl ?_
      obtain ⟨a_25, ea_25, hw⟩ := hw
      subst ea_25
      obtain ⟨fs_60, e_61, hw⟩ := hw
      refine v_callV q577 q578 q579 q108 q580 (ci := 2) rfl e_61 n_J2_get ⟨Nat.le_of_ble_eq_true rfl, Nat.le_of_ble_eq_true rfl⟩ [.int x2] [.long ((x1).toInt64)] (met_J2_get hw) rfl (Nat.le_of_ble_eq_true rfl) ⟨Nat.le_refl _, Nat.le_refl _⟩ dX0_isFree_26 rfl (v_kq (fun r_26 h1 hv => ?_))
      clear hw
      obtain ⟨e9, hw⟩ := hv
      refine v_heap e9 ?_
      clear e9
      obtain ⟨a_27, ea_27, hw⟩ := hw
      subst ea_27
      obtain ⟨fs_28, e_29, hw⟩ := hw
      refine v_cast (ci := 24) rfl q1313 dX0_isFree_29 e_29 ?_
      obtain ⟨fs_30, z_33, e_31, e_32, hw⟩ := hw
      refine v_getN in_X24 (ci := 24) rfl 0 (Nat.le_of_ble_eq_true rfl) q1320 rfl dX0_isFree_32 e_31 e_32 ?_
      refine v_i2l dX0_isFree_35 ?_
      refine v_aload_n (q := 0) dX0_isFree_36 rfl rfl ?_
      obtain ⟨fs_34, r_37, e_35, e_36, hw⟩ := hw
      refine v_get in_X0 (ci := 0) rfl 1 (Nat.le_of_ble_eq_true rfl) q319 rfl dX0_isFree_37 e_35 e_36 ?_
      obtain ⟨a_38, ea_38, hw⟩ := hw
      subst ea_38
      obtain ⟨fs_39, r_42, e_40, e_41, hw⟩ := hw
      refine v_getN in_X1 (ci := 1) rfl 10 (Nat.le_of_ble_eq_true rfl) q240 rfl dX0_isFree_40 e_40 e_41 ?_
      refine v_iload_n (q := 2) dX0_isFree_43 rfl rfl ?_
      obtain ⟨a_43, ea_43, hw⟩ := hw
      subst ea_43
      obtain ⟨fs_58, e_59, hw⟩ := hw
      refine v_callV q577 q578 q579 q108 q580 (ci := 2) rfl e_59 n_J2_get ⟨Nat.le_of_ble_eq_true rfl, Nat.le_of_ble_eq_true rfl⟩ [.int x2] [.long ((z_33).toInt64), .long ((x1).toInt64)] (met_J2_get hw) rfl (Nat.le_of_ble_eq_true rfl) ⟨Nat.le_refl _, Nat.le_refl _⟩ dX0_isFree_44 rfl (v_kq (fun r_44 h1 hv => ?_))
      clear hw
      obtain ⟨e9, hw⟩ := hv
      refine v_heap e9 ?_
      clear e9
      obtain ⟨a_45, ea_45, hw⟩ := hw
      subst ea_45
      obtain ⟨fs_46, e_47, hw⟩ := hw
      refine v_cast (ci := 24) rfl q1313 dX0_isFree_47 e_47 ?_
      obtain ⟨fs_48, z_51, e_49, e_50, hw⟩ := hw
      refine v_getN in_X24 (ci := 24) rfl 1 (Nat.le_of_ble_eq_true rfl) q1322 rfl dX0_isFree_50 e_49 e_50 ?_
      refine v_i2l dX0_isFree_53 ?_
      refine v_callS q393 q394 q104 q395 n_X0_in ⟨Nat.le_of_ble_eq_true rfl, Nat.le_of_ble_eq_true rfl⟩ [.long ((x1).toInt64), .long ((z_33).toInt64), .long ((z_51).toInt64)] [] (met_X0_in hw) rfl (Nat.zero_le _) ⟨Nat.le_refl _, Nat.le_refl _⟩ dX0_isFree_54 rfl (v_ki (fun z_52 h1 hv => ?_))
      clear hw
      obtain ⟨e9, hw⟩ := hv
      refine v_heap e9 ?_
      clear e9
      obtain ⟨hw_55, hw_56⟩ := hw
      refine v_if_eq (tgt := 62) dX0_isFree_57 (by decide) (fun c_53 => ?_) (fun c_54 => ?_)
      · have hw := hw_55 c_53
        obtain ⟨z_57, e_57⟩ : ∃ z9 : Int32, z9 = x2 + (nI 1) := ⟨_, rfl⟩
        replace hw := hw z_57 e_57
        refine v_iinc (q := 2) (v := z_57) (lv1 := [(2, .int z_57), (0, va_rf (some b0)), (1, .int x1)]) dX0_isFree_62 rfl (by rw [e_57, ic_1]) (Nat.le_of_ble_eq_true rfl) rfl ?_
        refine v_goto (tgt := 2) dX0_isFree_65 (by decide) ?_
        refine v_sub [1, 2, 0] rfl ?_
        exact ih z_57 hw
      · have hw := hw_56 c_54
        refine v_iconst dX0_isFree_60 ic_1 ?_
        exact v_zret dX0_isFree_61 rfl rfl ⟨_, rfl, rfl, hw⟩
theorem e_X0_isFree {post : (Int32) → Prop}   {b0 : Nat} {x1 : Int32} {h : AH}  (hw : w_X0_isFree post  b0 x1 h) : VV l E X cX0_isFree RX0 "isFree" 3 r_X0_isFree (some .boolean) (vpi (fun (r : Int32) (h' : AH) => h' = h ∧ post r)) h 0 0 0 [(0, va_rf (some b0)), (1, .int x1)] [] := by
  refine v_iconst dX0_isFree_0 ic_0 ?_
  refine v_istore_n (lv1 := [(2, .int (nI 0)), (0, va_rf (some b0)), (1, .int x1)]) dX0_isFree_1 rfl (Nat.le_of_ble_eq_true rfl) rfl ?_
  obtain ⟨n_64, hw⟩ := hw
  refine v_sub [1, 2, 0] rfl ?_
  exact b_X0_isFree_2 n_64 (nI 0) hw
theorem met_X0_isFree {post : (Int32) → Prop}   {b0 : Nat} {x1 : Int32} {h : AH}  (hw : w_X0_isFree post  b0 x1 h) : Mt l E yX0_isFree (ws_ yX0_isFree cX0_isFree 3 (some .boolean)) r_X0_isFree [va_rf (some b0), .int x1] h (vpi (fun (r : Int32) (h' : AH) => h' = h ∧ post r)) := v_entry (by decide +kernel) (Nat.le_of_ble_eq_true rfl) rfl (fun _ => e_X0_isFree hw)
/-! X0_rate -/
abbrev r_X0_rate : Room := { frames := 4, cells := 0, slots := 0, locals := 88 }
theorem n_X0_rate : vdn yX0_rate 0 := ⟨by decide +kernel, by decide +kernel, by decide +kernel⟩
def w_X0_rate_88 (post : (Int32) → (AH) → Prop) (k26 : (Int32) → (Int32) → (Int32) → (AH) → Prop) (b0 : Nat) (x1 : Int32) (x2 : Int32) (x3 : Int32) (h : AH) : Prop :=
 (∀ z_1 : Int32, z_1 = x3 + (nI 1) → (k26 x1 x2 z_1 h))
def w_X0_rate_47 (post : (Int32) → (AH) → Prop) (k26 : (Int32) → (Int32) → (Int32) → (AH) → Prop) (b0 : Nat) (x1 : Int32) (x3 : Int32) (s0 : Int32) (s1 : Int32) (h : AH) : Prop :=
 (∀ z_2 : Int32, z_2 = (s1 + s0) → (∃ fs_17 : List Value, h b0 = some (.inr (0, fs_17)) ∧ (w_X0_pagesIn (fun (z_3 : Int32) => ((¬ z_3 = 0 → (∃ fs_15 : List Value, h b0 = some (.inr (0, fs_15)) ∧ (w_X0_pagesIn (fun (z_8 : Int32) => ((¬ z_2 = 0 → (¬ z_2 = 0 ∧ (∀ z_14 : Int32, z_14 = (if x1 < (((z_8 + z_2) - (nI 1)) / z_2) then (((z_8 + z_2) - (nI 1)) / z_2) else x1) → (w_X0_rate_88 post k26 b0 z_14 z_2 x3 h)))) ∧ (z_2 = 0 → (post (-1) h)))) b0 (nI 0) x3 h))) ∧ (z_3 = 0 → (w_X0_rate_88 post k26 b0 x1 z_2 x3 h)))) b0 x3 x3 h)))
def w_X0_rate_26 (post : (Int32) → (AH) → Prop) (b0 : Nat) : Nat → (Int32) → (Int32) → (Int32) → (AH) → Prop
 | 0, _, _, _, _ => False
 | n0 + 1, x1, x2, x3, h =>
 (((nI 10000) ≤ x3 → ((x1 ≤ (nI 99) → (post x1 h)) ∧ (¬ x1 ≤ (nI 99) → (post (-1) h)))) ∧ (¬ (nI 10000) ≤ x3 → (∃ fs_32 : List Value, h b0 = some (.inr (0, fs_32)) ∧ (w_X0_isFree (fun (z_27 : Int32) => ((z_27 = 0 → (w_X0_rate_47 post (fun (q0 : Int32) (q1 : Int32) (q2 : Int32) (q3 : AH) => w_X0_rate_26 post b0 n0 q0 q1 q2 q3) b0 x1 x3 (nI 0) x2 h)) ∧ (¬ z_27 = 0 → (w_X0_rate_47 post (fun (q0 : Int32) (q1 : Int32) (q2 : Int32) (q3 : AH) => w_X0_rate_26 post b0 n0 q0 q1 q2 q3) b0 x1 x3 (nI 1) x2 h)))) b0 x3 h))))
def w_X0_rate (post : (Int32) → (AH) → Prop) (b0 : Nat) (h : AH) : Prop :=
 (∃ (fs_34 : List Value) (r_37 : Option Nat), h b0 = some (.inr (0, fs_34)) ∧ fs_34[1]? = some (va_rf r_37) ∧ (∃ a_38 : Nat, r_37 = some a_38 ∧ (∃ (fs_39 : List Value) (r_42 : Option Nat), h a_38 = some (.inr (1, fs_39)) ∧ fs_39[9]? = some (va_rf r_42) ∧ (∃ a_43 : Nat, r_42 = some a_43 ∧ (∃ fs_54 : List Value, h a_43 = some (.inr (2, fs_54)) ∧ (w_J2_isEmpty (fun (z_44 : Int32) => ((z_44 = 0 → (∃ n1 : Nat, (w_X0_rate_26 post b0 n1 (nI 1) (nI 0) (nI 0) h))) ∧ (¬ z_44 = 0 → (∃ fs_52 : List Value, h b0 = some (.inr (0, fs_52)) ∧ (w_X0_refuse (fun (z_50 : Int32) (h_51 : AH) => (post z_50 h_51)) b0 (-5) h))))) a_43 h))))))
theorem b_X0_rate_88 {post : (Int32) → (AH) → Prop}   {b0 : Nat} {k26 : (Int32) → (Int32) → (Int32) → (AH) → Prop}  (hk26 : ∀ (x1 : Int32) (x2 : Int32) (x3 : Int32) (h : AH), k26 x1 x2 x3 h → VV l E X cX0_rate RX0 "rate" 5 r_X0_rate (some .int) (vpi (fun (r : Int32) (h' : AH) => post r h')) h 0 0 26 [(0, va_rf (some b0)), (1, .int x1), (2, .int x2), (3, .int x3)] []) (x1 : Int32) (x2 : Int32) (x3 : Int32) (h : AH) (hw : w_X0_rate_88 post k26 b0 x1 x2 x3 h) : VV l E X cX0_rate RX0 "rate" 5 r_X0_rate (some .int) (vpi (fun (r : Int32) (h' : AH) => post r h')) h 0 0 88 [(0, va_rf (some b0)), (1, .int x1), (2, .int x2), (3, .int x3)] [] := by
  obtain ⟨z_1, e_1⟩ : ∃ z9 : Int32, z9 = x3 + (nI 1) := ⟨_, rfl⟩
  replace hw := hw z_1 e_1
  refine v_iinc (q := 3) (v := z_1) (lv1 := [(3, .int z_1), (0, va_rf (some b0)), (1, .int x1), (2, .int x2)]) dX0_rate_88 rfl (by rw [e_1, ic_1]) (Nat.le_of_ble_eq_true rfl) rfl ?_
  refine v_goto (tgt := 26) dX0_rate_91 (by decide) ?_
  refine v_sub [1, 2, 3, 0] rfl ?_
  exact hk26 x1 x2 z_1 h hw
theorem b_X0_rate_47 {post : (Int32) → (AH) → Prop}   {b0 : Nat} {k26 : (Int32) → (Int32) → (Int32) → (AH) → Prop}  (hk26 : ∀ (x1 : Int32) (x2 : Int32) (x3 : Int32) (h : AH), k26 x1 x2 x3 h → VV l E X cX0_rate RX0 "rate" 5 r_X0_rate (some .int) (vpi (fun (r : Int32) (h' : AH) => post r h')) h 0 0 26 [(0, va_rf (some b0)), (1, .int x1), (2, .int x2), (3, .int x3)] []) (x1 : Int32) (x3 : Int32) (s0 : Int32) (s1 : Int32) (h : AH) (hw : w_X0_rate_47 post k26 b0 x1 x3 s0 s1 h) : VV l E X cX0_rate RX0 "rate" 5 r_X0_rate (some .int) (vpi (fun (r : Int32) (h' : AH) => post r h')) h 0 0 47 [(0, va_rf (some b0)), (1, .int x1), (3, .int x3)] [.int s0, .int s1] := by
  refine v_iadd dX0_rate_47 ?_
  refine v_topi (fun z_2 e_2 => ?_)
  replace hw := hw z_2 e_2
  refine v_istore_n (lv1 := [(2, .int z_2), (0, va_rf (some b0)), (1, .int x1), (3, .int x3)]) dX0_rate_48 rfl (Nat.le_of_ble_eq_true rfl) rfl ?_
  refine v_aload_n (q := 1) dX0_rate_49 rfl rfl ?_
  refine v_iload_n (q := 3) dX0_rate_50 rfl rfl ?_
  refine v_iload_n (q := 3) dX0_rate_51 rfl rfl ?_
  obtain ⟨fs_17, e_18, hw⟩ := hw
  refine v_callV q1337 q1339 qs46 q104 q1340 (ci := 0) rfl e_18 n_X0_pagesIn ⟨Nat.le_of_ble_eq_true rfl, Nat.le_of_ble_eq_true rfl⟩ [.int x3, .int x3] [] (met_X0_pagesIn hw) rfl (Nat.zero_le _) ⟨Nat.le_refl _, Nat.le_refl _⟩ dX0_rate_52 rfl (v_ki (fun z_3 h1 hv => ?_))
  clear hw
  obtain ⟨e9, hw⟩ := hv
  refine v_heap e9 ?_
  clear e9
  obtain ⟨hw_6, hw_7⟩ := hw
  refine v_if_ne (tgt := 61) dX0_rate_55 (by decide) (fun c_4 => ?_) (fun c_5 => ?_)
  · have hw := hw_6 c_4
    refine v_aload_n (q := 1) dX0_rate_61 rfl rfl ?_
    refine v_iconst dX0_rate_62 ic_0 ?_
    refine v_iload_n (q := 3) dX0_rate_63 rfl rfl ?_
    obtain ⟨fs_15, e_16, hw⟩ := hw
    refine v_callV q1337 q1339 qs46 q104 q1340 (ci := 0) rfl e_16 n_X0_pagesIn ⟨Nat.le_of_ble_eq_true rfl, Nat.le_of_ble_eq_true rfl⟩ [.int (nI 0), .int x3] [] (met_X0_pagesIn hw) rfl (Nat.zero_le _) ⟨Nat.le_refl _, Nat.le_refl _⟩ dX0_rate_64 rfl (v_ki (fun z_8 h1 hv => ?_))
    clear hw
    obtain ⟨e9, hw⟩ := hv
    refine v_heap e9 ?_
    clear e9
    refine v_istore (lv1 := [(4, .int z_8), (2, .int z_2), (0, va_rf (some b0)), (1, .int x1), (3, .int x3)]) dX0_rate_67 (Nat.le_of_ble_eq_true rfl) rfl ?_
    refine v_iload_n (q := 1) dX0_rate_69 rfl rfl ?_
    obtain ⟨hw_11, hw_12⟩ := hw
    refine v_if_ne (tgt := 75) dX0_rate_70 (by decide) (fun c_9 => ?_) (fun c_10 => ?_)
    · have hw := hw_11 c_9
      refine v_iload_n (q := 3) dX0_rate_75 rfl rfl ?_
      refine v_iload (q := 0) dX0_rate_76 rfl ?_
      refine v_iload_n (q := 1) dX0_rate_78 rfl rfl ?_
      refine v_iadd dX0_rate_79 ?_
      refine v_iconst dX0_rate_80 ic_1 ?_
      refine v_isub dX0_rate_81 ?_
      refine v_iload_n (q := 1) dX0_rate_82 rfl rfl ?_
      obtain ⟨hz_13, hw⟩ := hw
      refine v_idiv dX0_rate_83 hz_13 ?_
      refine v_mmax q629 q467 q116 q468 (Nat.zero_le _) (Nat.le_of_ble_eq_true rfl) (Nat.le_of_ble_eq_true rfl) dX0_rate_84 ?_
      refine v_topi (fun z_14 e_14 => ?_)
      replace hw := hw z_14 e_14
      refine v_istore_n (lv1 := [(1, .int z_14), (4, .int z_8), (2, .int z_2), (0, va_rf (some b0)), (3, .int x3)]) dX0_rate_87 rfl (Nat.le_of_ble_eq_true rfl) rfl ?_
      refine v_sub [3, 0, 2, 4] rfl ?_
      exact b_X0_rate_88 hk26 z_14 z_2 x3 h hw
    · have hw := hw_12 c_10
      refine v_iconst dX0_rate_73 ic_m1 ?_
      exact v_iret dX0_rate_74 rfl ⟨_, rfl, hw⟩
  · have hw := hw_7 c_5
    refine v_goto (tgt := 88) dX0_rate_58 (by decide) ?_
    refine v_sub [1, 2, 0, 3] rfl ?_
    exact b_X0_rate_88 hk26 x1 z_2 x3 h hw
theorem b_X0_rate_26 {post : (Int32) → (AH) → Prop}   {b0 : Nat}    : ∀ (n0 : Nat) (x1 : Int32) (x2 : Int32) (x3 : Int32) (h : AH), w_X0_rate_26 post b0 n0 x1 x2 x3 h → VV l E X cX0_rate RX0 "rate" 5 r_X0_rate (some .int) (vpi (fun (r : Int32) (h' : AH) => post r h')) h 0 0 26 [(0, va_rf (some b0)), (1, .int x1), (2, .int x2), (3, .int x3)] [] := by
  intro n0
  induction n0 with
  | zero =>
    intro x1 x2 x3 h hw
    exact hw.elim
  | succ n0 ih =>
    intro x1 x2 x3 h hw
    refine v_iload_n (q := 3) dX0_rate_26 rfl rfl ?_
    refine v_sipush dX0_rate_27 sp_10000 ?_
    obtain ⟨hw_21, hw_22⟩ := hw
    refine v_icmp_ge (tgt := 94) dX0_rate_30 (by decide) (fun c_19 => ?_) (fun c_20 => ?_)
    · have hw := hw_21 c_19
      refine v_iload_n (q := 1) dX0_rate_94 rfl rfl ?_
      refine v_bipush dX0_rate_95 bp_99 ?_
      obtain ⟨hw_25, hw_26⟩ := hw
      refine v_icmp_le (tgt := 104) dX0_rate_97 (by decide) (fun c_23 => ?_) (fun c_24 => ?_)
      · have hw := hw_25 c_23
        refine v_iload_n (q := 1) dX0_rate_104 rfl rfl ?_
        exact v_iret dX0_rate_105 rfl ⟨_, rfl, hw⟩
      · have hw := hw_26 c_24
        refine v_iconst dX0_rate_100 ic_m1 ?_
        refine v_goto (tgt := 105) dX0_rate_101 (by decide) ?_
        exact v_iret dX0_rate_105 rfl ⟨_, rfl, hw⟩
    · have hw := hw_22 c_20
      refine v_iload_n (q := 2) dX0_rate_33 rfl rfl ?_
      refine v_aload_n (q := 0) dX0_rate_34 rfl rfl ?_
      refine v_iload_n (q := 3) dX0_rate_35 rfl rfl ?_
      obtain ⟨fs_32, e_33, hw⟩ := hw
      refine v_callV q1349 q1351 qs47 q104 q1352 (ci := 0) rfl e_33 n_X0_isFree ⟨Nat.le_of_ble_eq_true rfl, Nat.le_of_ble_eq_true rfl⟩ [.int x3] [.int x2] (met_X0_isFree hw) rfl (Nat.le_of_ble_eq_true rfl) ⟨Nat.le_refl _, Nat.le_refl _⟩ dX0_rate_36 rfl (v_ki (fun z_27 h1 hv => ?_))
      clear hw
      obtain ⟨e9, hw⟩ := hv
      refine v_heap e9 ?_
      clear e9
      obtain ⟨hw_30, hw_31⟩ := hw
      refine v_if_eq (tgt := 46) dX0_rate_39 (by decide) (fun c_28 => ?_) (fun c_29 => ?_)
      · have hw := hw_30 c_28
        refine v_iconst dX0_rate_46 ic_0 ?_
        refine v_sub [0, 1, 3] rfl ?_
        exact b_X0_rate_47 (fun q0 q1 q2 q3 z => ih q0 q1 q2 q3 z) x1 x3 (nI 0) x2 h hw
      · have hw := hw_31 c_29
        refine v_iconst dX0_rate_42 ic_1 ?_
        refine v_goto (tgt := 47) dX0_rate_43 (by decide) ?_
        refine v_sub [0, 1, 3] rfl ?_
        exact b_X0_rate_47 (fun q0 q1 q2 q3 z => ih q0 q1 q2 q3 z) x1 x3 (nI 1) x2 h hw
theorem e_X0_rate {post : (Int32) → (AH) → Prop}   {b0 : Nat} {h : AH}  (hw : w_X0_rate post  b0 h) : VV l E X cX0_rate RX0 "rate" 5 r_X0_rate (some .int) (vpi (fun (r : Int32) (h' : AH) => post r h')) h 0 0 0 [(0, va_rf (some b0))] [] := by
  refine v_aload_n (q := 0) dX0_rate_0 rfl rfl ?_
  obtain ⟨fs_34, r_37, e_35, e_36, hw⟩ := hw
  refine v_get in_X0 (ci := 0) rfl 1 (Nat.le_of_ble_eq_true rfl) q319 rfl dX0_rate_1 e_35 e_36 ?_
  obtain ⟨a_38, ea_38, hw⟩ := hw
  subst ea_38
  obtain ⟨fs_39, r_42, e_40, e_41, hw⟩ := hw
  refine v_getN in_X1 (ci := 1) rfl 9 (Nat.le_of_ble_eq_true rfl) q238 rfl dX0_rate_4 e_40 e_41 ?_
  obtain ⟨a_43, ea_43, hw⟩ := hw
  subst ea_43
  obtain ⟨fs_54, e_55, hw⟩ := hw
  refine v_callV q986 q987 q988 q108 q989 (ci := 2) rfl e_55 n_J2_isEmpty ⟨Nat.le_of_ble_eq_true rfl, Nat.le_of_ble_eq_true rfl⟩ [] [] (met_J2_isEmpty hw) rfl (Nat.zero_le _) ⟨Nat.le_refl _, Nat.le_refl _⟩ dX0_rate_7 rfl (v_ki (fun z_44 h1 hv => ?_))
  clear hw
  obtain ⟨e9, hw⟩ := hv
  refine v_heap e9 ?_
  clear e9
  obtain ⟨hw_47, hw_48⟩ := hw
  refine v_if_eq (tgt := 20) dX0_rate_10 (by decide) (fun c_45 => ?_) (fun c_46 => ?_)
  · have hw := hw_47 c_45
    refine v_iconst dX0_rate_20 ic_1 ?_
    refine v_istore_n (lv1 := [(1, .int (nI 1)), (0, va_rf (some b0))]) dX0_rate_21 rfl (Nat.le_of_ble_eq_true rfl) rfl ?_
    refine v_iconst dX0_rate_22 ic_0 ?_
    refine v_istore_n (lv1 := [(2, .int (nI 0)), (1, .int (nI 1)), (0, va_rf (some b0))]) dX0_rate_23 rfl (Nat.le_of_ble_eq_true rfl) rfl ?_
    refine v_iconst dX0_rate_24 ic_0 ?_
    refine v_istore_n (lv1 := [(3, .int (nI 0)), (2, .int (nI 0)), (1, .int (nI 1)), (0, va_rf (some b0))]) dX0_rate_25 rfl (Nat.le_of_ble_eq_true rfl) rfl ?_
    obtain ⟨n_49, hw⟩ := hw
    refine v_sub [3, 2, 1, 0] rfl ?_
    exact b_X0_rate_26 n_49 (nI 1) (nI 0) (nI 0) h hw
  · have hw := hw_48 c_46
    refine v_aload_n (q := 0) dX0_rate_13 rfl rfl ?_
    refine v_bipush dX0_rate_14 bp_m5 ?_
    obtain ⟨fs_52, e_53, hw⟩ := hw
    refine v_callV q396 q398 qs0 q104 q399 (ci := 0) rfl e_53 n_X0_refuse ⟨Nat.le_of_ble_eq_true rfl, Nat.le_of_ble_eq_true rfl⟩ [.int (-5)] [] (met_X0_refuse hw) rfl (Nat.zero_le _) ⟨Nat.le_refl _, Nat.le_refl _⟩ dX0_rate_16 rfl (v_ki (fun z_50 h_51 hv => ?_))
    clear hw
    have hw := hv
    clear hv
    exact v_iret dX0_rate_19 rfl ⟨_, rfl, hw⟩
theorem met_X0_rate {post : (Int32) → (AH) → Prop}   {b0 : Nat} {h : AH}  (hw : w_X0_rate post  b0 h) : Mt l E yX0_rate (ws_ yX0_rate cX0_rate 5 (some .int)) r_X0_rate [va_rf (some b0)] h (vpi (fun (r : Int32) (h' : AH) => post r h')) := v_entry (by decide +kernel) (Nat.le_of_ble_eq_true rfl) rfl (fun _ => e_X0_rate hw)
/-! X0_world -/
abbrev r_X0_world : Room := { frames := 1, cells := 0, slots := 0, locals := 25 }
theorem n_X0_world : vdn yX0_world 1 := ⟨by decide +kernel, by decide +kernel, by decide +kernel⟩
def w_X0_world_56 (post : (Int32) → (AH) → Prop) (b0 : Nat) (x1 : Int32) : Nat → (Int32) → (AH) → Prop
 | 0, _, _ => False
 | n0 + 1, x2, h =>
 (((nI 16) ≤ x2 → (∃ (fs_5 : List Value) (r_8 : Option Nat), h b0 = some (.inr (0, fs_5)) ∧ fs_5[1]? = some (va_rf r_8) ∧ (∃ a_9 : Nat, r_8 = some a_9 ∧ (∃ (fs_10 : List Value) (z_13 : Int32), h a_9 = some (.inr (1, fs_10)) ∧ fs_10[14]? = some (.int z_13) ∧ (∃ fs_14 : List Value, h a_9 = some (.inr (1, fs_14)) ∧ 14 < fs_14.length ∧ ∀ h_17 : AH, h_17 = va_up h a_9 (some (.inr (1, fs_14.set 14 (.int (z_13 + (nI 1)))))) → (∃ (fs_18 : List Value) (r_21 : Option Nat), h_17 b0 = some (.inr (0, fs_18)) ∧ fs_18[1]? = some (va_rf r_21) ∧ (∃ a_22 : Nat, r_21 = some a_22 ∧ (∃ (fs_23 : List Value) (z_26 : Int32), h_17 a_22 = some (.inr (1, fs_23)) ∧ fs_23[14]? = some (.int z_26) ∧ (post (z_26 - (nI 1)) h_17))))))))) ∧ (¬ (nI 16) ≤ x2 → (∃ (fs_27 : List Value) (r_30 : Option Nat), h b0 = some (.inr (0, fs_27)) ∧ fs_27[1]? = some (va_rf r_30) ∧ (∃ a_31 : Nat, r_30 = some a_31 ∧ (∃ (fs_32 : List Value) (r_35 : Option Nat), h a_31 = some (.inr (1, fs_32)) ∧ fs_32[13]? = some (va_rf r_35) ∧ (∃ (fs_36 : List Value) (r_39 : Option Nat), h b0 = some (.inr (0, fs_36)) ∧ fs_36[1]? = some (va_rf r_39) ∧ (∃ a_40 : Nat, r_39 = some a_40 ∧ (∃ (fs_41 : List Value) (z_44 : Int32), h a_40 = some (.inr (1, fs_41)) ∧ fs_41[14]? = some (.int z_44) ∧ (∃ a_45 : Nat, r_35 = some a_45 ∧ (∃ (N_46 : Nat) (g_47 : Nat → Int32), h a_45 = some (.inl (0, N_46, .inl g_47)) ∧ vp_in (((nI 16) * z_44) + x2) N_46 ∧ ∀ h_50 : AH, h_50 = va_up h a_45 (some (.inl (0, N_46, .inl (upd g_47 ((((nI 16) * z_44) + x2)).toNatClampNeg (nI 0))))) → (∀ z_51 : Int32, z_51 = x2 + (nI 1) → (w_X0_world_56 post b0 x1 n0 z_51 h_50))))))))))))
def w_X0_world (post : (Int32) → (AH) → Prop) (b0 : Nat) (x1 : Int32) (h : AH) : Prop :=
 (w_X0_in (fun (z_52 : Int32) => ((¬ z_52 = 0 → (∃ (fs_57 : List Value) (r_60 : Option Nat), h b0 = some (.inr (0, fs_57)) ∧ fs_57[1]? = some (va_rf r_60) ∧ (∃ a_61 : Nat, r_60 = some a_61 ∧ (∃ (fs_62 : List Value) (z_65 : Int32), h a_61 = some (.inr (1, fs_62)) ∧ fs_62[14]? = some (.int z_65) ∧ ((¬ z_65 = (nI 8) → (∃ (fs_70 : List Value) (r_73 : Option Nat), h b0 = some (.inr (0, fs_70)) ∧ fs_70[1]? = some (va_rf r_73) ∧ (∃ a_74 : Nat, r_73 = some a_74 ∧ (∃ (fs_75 : List Value) (r_78 : Option Nat), h a_74 = some (.inr (1, fs_75)) ∧ fs_75[12]? = some (va_rf r_78) ∧ (∃ (fs_79 : List Value) (r_82 : Option Nat), h b0 = some (.inr (0, fs_79)) ∧ fs_79[1]? = some (va_rf r_82) ∧ (∃ a_83 : Nat, r_82 = some a_83 ∧ (∃ (fs_84 : List Value) (z_87 : Int32), h a_83 = some (.inr (1, fs_84)) ∧ fs_84[14]? = some (.int z_87) ∧ (∃ a_88 : Nat, r_78 = some a_88 ∧ (∃ (N_89 : Nat) (g_90 : Nat → Int32), h a_88 = some (.inl (0, N_89, .inl g_90)) ∧ vp_in z_87 N_89 ∧ ∀ h_93 : AH, h_93 = va_up h a_88 (some (.inl (0, N_89, .inl (upd g_90 (z_87).toNatClampNeg x1)))) → (∃ n1 : Nat, (w_X0_world_56 post b0 x1 n1 (nI 0) h_93))))))))))) ∧ (z_65 = (nI 8) → (∃ fs_97 : List Value, h b0 = some (.inr (0, fs_97)) ∧ (w_X0_refuse (fun (z_95 : Int32) (h_96 : AH) => (post z_95 h_96)) b0 (-4) h)))))))) ∧ (z_52 = 0 → (∃ fs_101 : List Value, h b0 = some (.inr (0, fs_101)) ∧ (w_X0_refuse (fun (z_99 : Int32) (h_100 : AH) => (post z_99 h_100)) b0 (-3) h))))) ((x1).toInt64) (lN 1) (lN 99))
theorem b_X0_world_56 {post : (Int32) → (AH) → Prop}   {b0 : Nat} {x1 : Int32}    : ∀ (n0 : Nat) (x2 : Int32) (h : AH), w_X0_world_56 post b0 x1 n0 x2 h → VV l E X cX0_world RX0 "world" 3 r_X0_world (some .int) (vpi (fun (r : Int32) (h' : AH) => post r h')) h 0 0 56 [(0, va_rf (some b0)), (1, .int x1), (2, .int x2)] [] := by
  intro n0
  induction n0 with
  | zero =>
    intro x2 h hw
    exact hw.elim
  | succ n0 ih =>
    intro x2 h hw
    refine v_iload_n (q := 2) dX0_world_56 rfl rfl ?_
    refine v_bipush dX0_world_57 bp_16 ?_
    obtain ⟨hw_3, hw_4⟩ := hw
    refine v_icmp_ge (tgt := 89) dX0_world_59 (by decide) (fun c_1 => ?_) (fun c_2 => ?_)
    · have hw := hw_3 c_1
      refine v_aload_n (q := 0) dX0_world_89 rfl rfl ?_
      obtain ⟨fs_5, r_8, e_6, e_7, hw⟩ := hw
      refine v_get in_X0 (ci := 0) rfl 1 (Nat.le_of_ble_eq_true rfl) q319 rfl dX0_world_90 e_6 e_7 ?_
      refine v_dup dX0_world_93 (v_rf1 _) ?_
      obtain ⟨a_9, ea_9, hw⟩ := hw
      subst ea_9
      obtain ⟨fs_10, z_13, e_11, e_12, hw⟩ := hw
      refine v_getN in_X1 (ci := 1) rfl 14 (Nat.le_of_ble_eq_true rfl) q248 rfl dX0_world_94 e_11 e_12 ?_
      refine v_iconst dX0_world_97 ic_1 ?_
      refine v_iadd dX0_world_98 ?_
      obtain ⟨fs_14, e_15, e_16, hw⟩ := hw
      obtain ⟨h_17, eh_17⟩ : ∃ z9 : AH, z9 = va_up h a_9 (some (.inr (1, fs_14.set 14 (.int (z_13 + (nI 1)))))) := ⟨_, rfl⟩
      replace hw := hw h_17 eh_17
      refine v_putN in_X1 (ci := 1) rfl 14 (Nat.le_of_ble_eq_true rfl) tyX1 tyX1_ok nmX1 q248 rfl rfl rfl rfl rfl dX0_world_99 e_15 e_16 ?_
      rw [← eh_17]
      refine v_aload_n (q := 0) dX0_world_102 rfl rfl ?_
      obtain ⟨fs_18, r_21, e_19, e_20, hw⟩ := hw
      refine v_get in_X0 (ci := 0) rfl 1 (Nat.le_of_ble_eq_true rfl) q319 rfl dX0_world_103 e_19 e_20 ?_
      obtain ⟨a_22, ea_22, hw⟩ := hw
      subst ea_22
      obtain ⟨fs_23, z_26, e_24, e_25, hw⟩ := hw
      refine v_getN in_X1 (ci := 1) rfl 14 (Nat.le_of_ble_eq_true rfl) q248 rfl dX0_world_106 e_24 e_25 ?_
      refine v_iconst dX0_world_109 ic_1 ?_
      refine v_isub dX0_world_110 ?_
      exact v_iret dX0_world_111 rfl ⟨_, rfl, hw⟩
    · have hw := hw_4 c_2
      refine v_aload_n (q := 0) dX0_world_62 rfl rfl ?_
      obtain ⟨fs_27, r_30, e_28, e_29, hw⟩ := hw
      refine v_get in_X0 (ci := 0) rfl 1 (Nat.le_of_ble_eq_true rfl) q319 rfl dX0_world_63 e_28 e_29 ?_
      obtain ⟨a_31, ea_31, hw⟩ := hw
      subst ea_31
      obtain ⟨fs_32, r_35, e_33, e_34, hw⟩ := hw
      refine v_getN in_X1 (ci := 1) rfl 13 (Nat.le_of_ble_eq_true rfl) q246 rfl dX0_world_66 e_33 e_34 ?_
      refine v_bipush dX0_world_69 bp_16 ?_
      refine v_aload_n (q := 0) dX0_world_71 rfl rfl ?_
      obtain ⟨fs_36, r_39, e_37, e_38, hw⟩ := hw
      refine v_get in_X0 (ci := 0) rfl 1 (Nat.le_of_ble_eq_true rfl) q319 rfl dX0_world_72 e_37 e_38 ?_
      obtain ⟨a_40, ea_40, hw⟩ := hw
      subst ea_40
      obtain ⟨fs_41, z_44, e_42, e_43, hw⟩ := hw
      refine v_getN in_X1 (ci := 1) rfl 14 (Nat.le_of_ble_eq_true rfl) q248 rfl dX0_world_75 e_42 e_43 ?_
      refine v_imul dX0_world_78 ?_
      refine v_iload_n (q := 2) dX0_world_79 rfl rfl ?_
      refine v_iadd dX0_world_80 ?_
      refine v_iconst dX0_world_81 ic_0 ?_
      obtain ⟨a_45, ea_45, hw⟩ := hw
      subst ea_45
      obtain ⟨N_46, g_47, e_48, hi_49, hw⟩ := hw
      obtain ⟨h_50, eh_50⟩ : ∃ z9 : AH, z9 = va_up h a_45 (some (.inl (0, N_46, .inl (upd g_47 ((((nI 16) * z_44) + x2)).toNatClampNeg (nI 0))))) := ⟨_, rfl⟩
      replace hw := hw h_50 eh_50
      refine v_iast dX0_world_82 e_48 hi_49 ?_
      rw [← eh_50]
      obtain ⟨z_51, e_51⟩ : ∃ z9 : Int32, z9 = x2 + (nI 1) := ⟨_, rfl⟩
      replace hw := hw z_51 e_51
      refine v_iinc (q := 2) (v := z_51) (lv1 := [(2, .int z_51), (0, va_rf (some b0)), (1, .int x1)]) dX0_world_83 rfl (by rw [e_51, ic_1]) (Nat.le_of_ble_eq_true rfl) rfl ?_
      refine v_goto (tgt := 56) dX0_world_86 (by decide) ?_
      refine v_sub [1, 2, 0] rfl ?_
      exact ih z_51 h_50 hw
theorem e_X0_world {post : (Int32) → (AH) → Prop}   {b0 : Nat} {x1 : Int32} {h : AH}  (hw : w_X0_world post  b0 x1 h) : VV l E X cX0_world RX0 "world" 3 r_X0_world (some .int) (vpi (fun (r : Int32) (h' : AH) => post r h')) h 0 0 0 [(0, va_rf (some b0)), (1, .int x1)] [] := by
  refine v_iload_n (q := 1) dX0_world_0 rfl rfl ?_
  refine v_i2l dX0_world_1 ?_
  refine v_lconst (v := lN 1) dX0_world_2 rfl ?_
  refine v_ldc2 (v := (lN 99)) dX0_world_3 q1332 ?_
  refine v_callS q393 q394 q104 q395 n_X0_in ⟨Nat.le_of_ble_eq_true rfl, Nat.le_of_ble_eq_true rfl⟩ [.long ((x1).toInt64), .long (lN 1), .long (lN 99)] [] (met_X0_in hw) rfl (Nat.zero_le _) ⟨Nat.le_refl _, Nat.le_refl _⟩ dX0_world_6 rfl (v_ki (fun z_52 h1 hv => ?_))
  clear hw
  obtain ⟨e9, hw⟩ := hv
  refine v_heap e9 ?_
  clear e9
  obtain ⟨hw_55, hw_56⟩ := hw
  refine v_if_ne (tgt := 19) dX0_world_9 (by decide) (fun c_53 => ?_) (fun c_54 => ?_)
  · have hw := hw_55 c_53
    refine v_aload_n (q := 0) dX0_world_19 rfl rfl ?_
    obtain ⟨fs_57, r_60, e_58, e_59, hw⟩ := hw
    refine v_get in_X0 (ci := 0) rfl 1 (Nat.le_of_ble_eq_true rfl) q319 rfl dX0_world_20 e_58 e_59 ?_
    obtain ⟨a_61, ea_61, hw⟩ := hw
    subst ea_61
    obtain ⟨fs_62, z_65, e_63, e_64, hw⟩ := hw
    refine v_getN in_X1 (ci := 1) rfl 14 (Nat.le_of_ble_eq_true rfl) q248 rfl dX0_world_23 e_63 e_64 ?_
    refine v_bipush dX0_world_26 bp_8 ?_
    obtain ⟨hw_68, hw_69⟩ := hw
    refine v_icmp_ne (tgt := 38) dX0_world_28 (by decide) (fun c_66 => ?_) (fun c_67 => ?_)
    · have hw := hw_68 c_66
      refine v_aload_n (q := 0) dX0_world_38 rfl rfl ?_
      obtain ⟨fs_70, r_73, e_71, e_72, hw⟩ := hw
      refine v_get in_X0 (ci := 0) rfl 1 (Nat.le_of_ble_eq_true rfl) q319 rfl dX0_world_39 e_71 e_72 ?_
      obtain ⟨a_74, ea_74, hw⟩ := hw
      subst ea_74
      obtain ⟨fs_75, r_78, e_76, e_77, hw⟩ := hw
      refine v_getN in_X1 (ci := 1) rfl 12 (Nat.le_of_ble_eq_true rfl) q244 rfl dX0_world_42 e_76 e_77 ?_
      refine v_aload_n (q := 0) dX0_world_45 rfl rfl ?_
      obtain ⟨fs_79, r_82, e_80, e_81, hw⟩ := hw
      refine v_get in_X0 (ci := 0) rfl 1 (Nat.le_of_ble_eq_true rfl) q319 rfl dX0_world_46 e_80 e_81 ?_
      obtain ⟨a_83, ea_83, hw⟩ := hw
      subst ea_83
      obtain ⟨fs_84, z_87, e_85, e_86, hw⟩ := hw
      refine v_getN in_X1 (ci := 1) rfl 14 (Nat.le_of_ble_eq_true rfl) q248 rfl dX0_world_49 e_85 e_86 ?_
      refine v_iload_n (q := 1) dX0_world_52 rfl rfl ?_
      obtain ⟨a_88, ea_88, hw⟩ := hw
      subst ea_88
      obtain ⟨N_89, g_90, e_91, hi_92, hw⟩ := hw
      obtain ⟨h_93, eh_93⟩ : ∃ z9 : AH, z9 = va_up h a_88 (some (.inl (0, N_89, .inl (upd g_90 (z_87).toNatClampNeg x1)))) := ⟨_, rfl⟩
      replace hw := hw h_93 eh_93
      refine v_iast dX0_world_53 e_91 hi_92 ?_
      rw [← eh_93]
      refine v_iconst dX0_world_54 ic_0 ?_
      refine v_istore_n (lv1 := [(2, .int (nI 0)), (0, va_rf (some b0)), (1, .int x1)]) dX0_world_55 rfl (Nat.le_of_ble_eq_true rfl) rfl ?_
      obtain ⟨n_94, hw⟩ := hw
      refine v_sub [1, 2, 0] rfl ?_
      exact b_X0_world_56 n_94 (nI 0) h_93 hw
    · have hw := hw_69 c_67
      refine v_aload_n (q := 0) dX0_world_31 rfl rfl ?_
      refine v_bipush dX0_world_32 bp_m4 ?_
      obtain ⟨fs_97, e_98, hw⟩ := hw
      refine v_callV q396 q398 qs0 q104 q399 (ci := 0) rfl e_98 n_X0_refuse ⟨Nat.le_of_ble_eq_true rfl, Nat.le_of_ble_eq_true rfl⟩ [.int (-4)] [] (met_X0_refuse hw) rfl (Nat.zero_le _) ⟨Nat.le_refl _, Nat.le_refl _⟩ dX0_world_34 rfl (v_ki (fun z_95 h_96 hv => ?_))
      clear hw
      have hw := hv
      clear hv
      exact v_iret dX0_world_37 rfl ⟨_, rfl, hw⟩
  · have hw := hw_56 c_54
    refine v_aload_n (q := 0) dX0_world_12 rfl rfl ?_
    refine v_bipush dX0_world_13 bp_m3 ?_
    obtain ⟨fs_101, e_102, hw⟩ := hw
    refine v_callV q396 q398 qs0 q104 q399 (ci := 0) rfl e_102 n_X0_refuse ⟨Nat.le_of_ble_eq_true rfl, Nat.le_of_ble_eq_true rfl⟩ [.int (-3)] [] (met_X0_refuse hw) rfl (Nat.zero_le _) ⟨Nat.le_refl _, Nat.le_refl _⟩ dX0_world_15 rfl (v_ki (fun z_99 h_100 hv => ?_))
    clear hw
    have hw := hv
    clear hv
    exact v_iret dX0_world_18 rfl ⟨_, rfl, hw⟩
theorem met_X0_world {post : (Int32) → (AH) → Prop}   {b0 : Nat} {x1 : Int32} {h : AH}  (hw : w_X0_world post  b0 x1 h) : Mt l E yX0_world (ws_ yX0_world cX0_world 3 (some .int)) r_X0_world [va_rf (some b0), .int x1] h (vpi (fun (r : Int32) (h' : AH) => post r h')) := v_entry (by decide +kernel) (Nat.le_of_ble_eq_true rfl) rfl (fun _ => e_X0_world hw)
/-! X0_says -/
abbrev r_X0_says : Room := { frames := 2, cells := 0, slots := 0, locals := 45 }
theorem n_X0_says : vdn yX0_says 3 := ⟨by decide +kernel, by decide +kernel, by decide +kernel⟩
def w_X0_says_26 (post : (Int32) → (AH) → Prop) (b0 : Nat) (x1 : Int32) (x2 : Int32) (x3 : Int32) (h : AH) : Prop :=
 (∃ fs_3 : List Value, h b0 = some (.inr (0, fs_3)) ∧ (w_X0_refuse (fun (z_1 : Int32) (h_2 : AH) => (post z_1 h_2)) b0 (-2) h))
def w_X0_says (post : (Int32) → (AH) → Prop) (b0 : Nat) (x1 : Int32) (x2 : Int32) (x3 : Int32) (h : AH) : Prop :=
 (∃ (fs_5 : List Value) (r_8 : Option Nat), h b0 = some (.inr (0, fs_5)) ∧ fs_5[1]? = some (va_rf r_8) ∧ (∃ a_9 : Nat, r_8 = some a_9 ∧ (∃ (fs_10 : List Value) (z_13 : Int32), h a_9 = some (.inr (1, fs_10)) ∧ fs_10[14]? = some (.int z_13) ∧ (w_X0_in (fun (z_14 : Int32) => ((z_14 = 0 → (w_X0_says_26 post b0 x1 x2 x3 h)) ∧ (¬ z_14 = 0 → (w_X0_isGlen (fun (z_19 : Int32) => ((¬ z_19 = 0 → (w_X0_in (fun (z_24 : Int32) => ((¬ z_24 = 0 → (∃ (fs_29 : List Value) (r_32 : Option Nat), h b0 = some (.inr (0, fs_29)) ∧ fs_29[1]? = some (va_rf r_32) ∧ (∃ a_33 : Nat, r_32 = some a_33 ∧ (∃ (fs_34 : List Value) (r_37 : Option Nat), h a_33 = some (.inr (1, fs_34)) ∧ fs_34[13]? = some (va_rf r_37) ∧ (∃ a_38 : Nat, r_37 = some a_38 ∧ (∃ (N_39 : Nat) (g_40 : Nat → Int32), h a_38 = some (.inl (0, N_39, .inl g_40)) ∧ vp_in (((nI 16) * x1) + x2) N_39 ∧ (∀ z_43 : Int32, z_43 = (g_40 ((((nI 16) * x1) + x2)).toNatClampNeg) → (∃ (fs_44 : List Value) (r_47 : Option Nat), h b0 = some (.inr (0, fs_44)) ∧ fs_44[1]? = some (va_rf r_47) ∧ (∃ a_48 : Nat, r_47 = some a_48 ∧ (∃ (fs_49 : List Value) (r_52 : Option Nat), h a_48 = some (.inr (1, fs_49)) ∧ fs_49[13]? = some (va_rf r_52) ∧ (∃ a_53 : Nat, r_52 = some a_53 ∧ (∃ (N_54 : Nat) (g_55 : Nat → Int32), h a_53 = some (.inl (0, N_54, .inl g_55)) ∧ vp_in (((nI 16) * x1) + x2) N_54 ∧ ∀ h_58 : AH, h_58 = va_up h a_53 (some (.inl (0, N_54, .inl (upd g_55 ((((nI 16) * x1) + x2)).toNatClampNeg x3)))) → (post z_43 h_58))))))))))))) ∧ (z_24 = 0 → (∃ fs_61 : List Value, h b0 = some (.inr (0, fs_61)) ∧ (w_X0_refuse (fun (z_59 : Int32) (h_60 : AH) => (post z_59 h_60)) b0 (-3) h))))) ((x3).toInt64) (lN 0) (lN 3))) ∧ (z_19 = 0 → (w_X0_says_26 post b0 x1 x2 x3 h)))) x2)))) ((x1).toInt64) (lN 0) (((z_13 - (nI 1))).toInt64)))))
theorem b_X0_says_26 {post : (Int32) → (AH) → Prop}   {b0 : Nat} {x1 : Int32} {x2 : Int32} {x3 : Int32}    (h : AH) (hw : w_X0_says_26 post b0 x1 x2 x3 h) : VV l E X cX0_says RX0 "says" 5 r_X0_says (some .int) (vpi (fun (r : Int32) (h' : AH) => post r h')) h 0 0 26 [(0, va_rf (some b0)), (1, .int x1), (2, .int x2), (3, .int x3)] [] := by
  refine v_aload_n (q := 0) dX0_says_26 rfl rfl ?_
  refine v_bipush dX0_says_27 bp_m2 ?_
  obtain ⟨fs_3, e_4, hw⟩ := hw
  refine v_callV q396 q398 qs0 q104 q399 (ci := 0) rfl e_4 n_X0_refuse ⟨Nat.le_of_ble_eq_true rfl, Nat.le_of_ble_eq_true rfl⟩ [.int (-2)] [] (met_X0_refuse hw) rfl (Nat.zero_le _) ⟨Nat.le_refl _, Nat.le_refl _⟩ dX0_says_29 rfl (v_ki (fun z_1 h_2 hv => ?_))
  clear hw
  have hw := hv
  clear hv
  exact v_iret dX0_says_32 rfl ⟨_, rfl, hw⟩
theorem e_X0_says {post : (Int32) → (AH) → Prop}   {b0 : Nat} {x1 : Int32} {x2 : Int32} {x3 : Int32} {h : AH}  (hw : w_X0_says post  b0 x1 x2 x3 h) : VV l E X cX0_says RX0 "says" 5 r_X0_says (some .int) (vpi (fun (r : Int32) (h' : AH) => post r h')) h 0 0 0 [(0, va_rf (some b0)), (1, .int x1), (2, .int x2), (3, .int x3)] [] := by
  refine v_iload_n (q := 1) dX0_says_0 rfl rfl ?_
  refine v_i2l dX0_says_1 ?_
  refine v_lconst (v := lN 0) dX0_says_2 rfl ?_
  refine v_aload_n (q := 0) dX0_says_3 rfl rfl ?_
  obtain ⟨fs_5, r_8, e_6, e_7, hw⟩ := hw
  refine v_get in_X0 (ci := 0) rfl 1 (Nat.le_of_ble_eq_true rfl) q319 rfl dX0_says_4 e_6 e_7 ?_
  obtain ⟨a_9, ea_9, hw⟩ := hw
  subst ea_9
  obtain ⟨fs_10, z_13, e_11, e_12, hw⟩ := hw
  refine v_getN in_X1 (ci := 1) rfl 14 (Nat.le_of_ble_eq_true rfl) q248 rfl dX0_says_7 e_11 e_12 ?_
  refine v_iconst dX0_says_10 ic_1 ?_
  refine v_isub dX0_says_11 ?_
  refine v_i2l dX0_says_12 ?_
  refine v_callS q393 q394 q104 q395 n_X0_in ⟨Nat.le_of_ble_eq_true rfl, Nat.le_of_ble_eq_true rfl⟩ [.long ((x1).toInt64), .long (lN 0), .long (((z_13 - (nI 1))).toInt64)] [] (met_X0_in hw) rfl (Nat.zero_le _) ⟨Nat.le_refl _, Nat.le_refl _⟩ dX0_says_13 rfl (v_ki (fun z_14 h1 hv => ?_))
  clear hw
  obtain ⟨e9, hw⟩ := hv
  refine v_heap e9 ?_
  clear e9
  obtain ⟨hw_17, hw_18⟩ := hw
  refine v_if_eq (tgt := 26) dX0_says_16 (by decide) (fun c_15 => ?_) (fun c_16 => ?_)
  · have hw := hw_17 c_15
    refine v_sub [0, 1, 2, 3] rfl ?_
    exact b_X0_says_26 h hw
  · have hw := hw_18 c_16
    refine v_iload_n (q := 2) dX0_says_19 rfl rfl ?_
    refine v_callS q404 q405 q104 q406 n_X0_isGlen ⟨Nat.le_of_ble_eq_true rfl, Nat.le_of_ble_eq_true rfl⟩ [.int x2] [] (met_X0_isGlen hw) rfl (Nat.zero_le _) ⟨Nat.le_refl _, Nat.le_refl _⟩ dX0_says_20 rfl (v_ki (fun z_19 h1 hv => ?_))
    clear hw
    obtain ⟨e9, hw⟩ := hv
    refine v_heap e9 ?_
    clear e9
    obtain ⟨hw_22, hw_23⟩ := hw
    refine v_if_ne (tgt := 33) dX0_says_23 (by decide) (fun c_20 => ?_) (fun c_21 => ?_)
    · have hw := hw_22 c_20
      refine v_iload_n (q := 3) dX0_says_33 rfl rfl ?_
      refine v_i2l dX0_says_34 ?_
      refine v_lconst (v := lN 0) dX0_says_35 rfl ?_
      refine v_ldc2 (v := (lN 3)) dX0_says_36 q1307 ?_
      refine v_callS q393 q394 q104 q395 n_X0_in ⟨Nat.le_of_ble_eq_true rfl, Nat.le_of_ble_eq_true rfl⟩ [.long ((x3).toInt64), .long (lN 0), .long (lN 3)] [] (met_X0_in hw) rfl (Nat.zero_le _) ⟨Nat.le_refl _, Nat.le_refl _⟩ dX0_says_39 rfl (v_ki (fun z_24 h1 hv => ?_))
      clear hw
      obtain ⟨e9, hw⟩ := hv
      refine v_heap e9 ?_
      clear e9
      obtain ⟨hw_27, hw_28⟩ := hw
      refine v_if_ne (tgt := 52) dX0_says_42 (by decide) (fun c_25 => ?_) (fun c_26 => ?_)
      · have hw := hw_27 c_25
        refine v_aload_n (q := 0) dX0_says_52 rfl rfl ?_
        obtain ⟨fs_29, r_32, e_30, e_31, hw⟩ := hw
        refine v_get in_X0 (ci := 0) rfl 1 (Nat.le_of_ble_eq_true rfl) q319 rfl dX0_says_53 e_30 e_31 ?_
        obtain ⟨a_33, ea_33, hw⟩ := hw
        subst ea_33
        obtain ⟨fs_34, r_37, e_35, e_36, hw⟩ := hw
        refine v_getN in_X1 (ci := 1) rfl 13 (Nat.le_of_ble_eq_true rfl) q246 rfl dX0_says_56 e_35 e_36 ?_
        refine v_bipush dX0_says_59 bp_16 ?_
        refine v_iload_n (q := 1) dX0_says_61 rfl rfl ?_
        refine v_imul dX0_says_62 ?_
        refine v_iload_n (q := 2) dX0_says_63 rfl rfl ?_
        refine v_iadd dX0_says_64 ?_
        obtain ⟨a_38, ea_38, hw⟩ := hw
        subst ea_38
        obtain ⟨N_39, g_40, e_41, hi_42, hw⟩ := hw
        refine v_iald dX0_says_65 e_41 hi_42 ?_
        refine v_topi (fun z_43 e_43 => ?_)
        replace hw := hw z_43 e_43
        refine v_istore (lv1 := [(4, .int z_43), (0, va_rf (some b0)), (1, .int x1), (2, .int x2), (3, .int x3)]) dX0_says_66 (Nat.le_of_ble_eq_true rfl) rfl ?_
        refine v_aload_n (q := 1) dX0_says_68 rfl rfl ?_
        obtain ⟨fs_44, r_47, e_45, e_46, hw⟩ := hw
        refine v_get in_X0 (ci := 0) rfl 1 (Nat.le_of_ble_eq_true rfl) q319 rfl dX0_says_69 e_45 e_46 ?_
        obtain ⟨a_48, ea_48, hw⟩ := hw
        subst ea_48
        obtain ⟨fs_49, r_52, e_50, e_51, hw⟩ := hw
        refine v_getN in_X1 (ci := 1) rfl 13 (Nat.le_of_ble_eq_true rfl) q246 rfl dX0_says_72 e_50 e_51 ?_
        refine v_bipush dX0_says_75 bp_16 ?_
        refine v_iload_n (q := 2) dX0_says_77 rfl rfl ?_
        refine v_imul dX0_says_78 ?_
        refine v_iload_n (q := 3) dX0_says_79 rfl rfl ?_
        refine v_iadd dX0_says_80 ?_
        refine v_iload_n (q := 4) dX0_says_81 rfl rfl ?_
        obtain ⟨a_53, ea_53, hw⟩ := hw
        subst ea_53
        obtain ⟨N_54, g_55, e_56, hi_57, hw⟩ := hw
        obtain ⟨h_58, eh_58⟩ : ∃ z9 : AH, z9 = va_up h a_53 (some (.inl (0, N_54, .inl (upd g_55 ((((nI 16) * x1) + x2)).toNatClampNeg x3)))) := ⟨_, rfl⟩
        replace hw := hw h_58 eh_58
        refine v_iast dX0_says_82 e_56 hi_57 ?_
        rw [← eh_58]
        refine v_iload (q := 0) dX0_says_83 rfl ?_
        exact v_iret dX0_says_85 rfl ⟨_, rfl, hw⟩
      · have hw := hw_28 c_26
        refine v_aload_n (q := 0) dX0_says_45 rfl rfl ?_
        refine v_bipush dX0_says_46 bp_m3 ?_
        obtain ⟨fs_61, e_62, hw⟩ := hw
        refine v_callV q396 q398 qs0 q104 q399 (ci := 0) rfl e_62 n_X0_refuse ⟨Nat.le_of_ble_eq_true rfl, Nat.le_of_ble_eq_true rfl⟩ [.int (-3)] [] (met_X0_refuse hw) rfl (Nat.zero_le _) ⟨Nat.le_refl _, Nat.le_refl _⟩ dX0_says_48 rfl (v_ki (fun z_59 h_60 hv => ?_))
        clear hw
        have hw := hv
        clear hv
        exact v_iret dX0_says_51 rfl ⟨_, rfl, hw⟩
    · have hw := hw_23 c_21
      refine v_sub [0, 1, 2, 3] rfl ?_
      exact b_X0_says_26 h hw
theorem met_X0_says {post : (Int32) → (AH) → Prop}   {b0 : Nat} {x1 : Int32} {x2 : Int32} {x3 : Int32} {h : AH}  (hw : w_X0_says post  b0 x1 x2 x3 h) : Mt l E yX0_says (ws_ yX0_says cX0_says 5 (some .int)) r_X0_says [va_rf (some b0), .int x1, .int x2, .int x3] h (vpi (fun (r : Int32) (h' : AH) => post r h')) := v_entry (by decide +kernel) (Nat.le_of_ble_eq_true rfl) rfl (fun _ => e_X0_says hw)
/-! X0_saying -/
abbrev r_X0_saying : Room := { frames := 0, cells := 0, slots := 0, locals := 0 }
theorem n_X0_saying : vdn yX0_saying 3 := ⟨by decide +kernel, by decide +kernel, by decide +kernel⟩
def w_X0_saying_56 (post : (Int32) → Prop) (k6 : (Int32) → (Int32) → Prop) (b0 : Nat) (x1 : Int32) (x2 : Int32) (x3 : Int32) (h : AH) (x4 : Int32) (x5 : Int32) : Prop :=
 (∀ z_1 : Int32, z_1 = x5 + (nI 1) → (k6 x4 z_1))
def w_X0_saying_6 (post : (Int32) → Prop) (b0 : Nat) (x1 : Int32) (x2 : Int32) (x3 : Int32) (h : AH) : Nat → (Int32) → (Int32) → Prop
 | 0, _, _ => False
 | n0 + 1, x4, x5 =>
 (∃ (fs_2 : List Value) (r_5 : Option Nat), h b0 = some (.inr (0, fs_2)) ∧ fs_2[1]? = some (va_rf r_5) ∧ (∃ a_6 : Nat, r_5 = some a_6 ∧ (∃ (fs_7 : List Value) (z_10 : Int32), h a_6 = some (.inr (1, fs_7)) ∧ fs_7[14]? = some (.int z_10) ∧ ((z_10 ≤ x5 → (post x4)) ∧ (¬ z_10 ≤ x5 → ((¬ ((x1 >>> (x5 &&& 31)) &&& (nI 1)) = (nI 1) → (w_X0_saying_56 post (fun (q0 : Int32) (q1 : Int32) => w_X0_saying_6 post b0 x1 x2 x3 h n0 q0 q1) b0 x1 x2 x3 h x4 x5)) ∧ (((x1 >>> (x5 &&& 31)) &&& (nI 1)) = (nI 1) → (∃ (fs_19 : List Value) (r_22 : Option Nat), h b0 = some (.inr (0, fs_19)) ∧ fs_19[1]? = some (va_rf r_22) ∧ (∃ a_23 : Nat, r_22 = some a_23 ∧ (∃ (fs_24 : List Value) (r_27 : Option Nat), h a_23 = some (.inr (1, fs_24)) ∧ fs_24[13]? = some (va_rf r_27) ∧ (∃ a_28 : Nat, r_27 = some a_28 ∧ (∃ (N_29 : Nat) (g_30 : Nat → Int32), h a_28 = some (.inl (0, N_29, .inl g_30)) ∧ vp_in (((nI 16) * x5) + x2) N_29 ∧ ((¬ (g_30 ((((nI 16) * x5) + x2)).toNatClampNeg) = x3 → (w_X0_saying_56 post (fun (q0 : Int32) (q1 : Int32) => w_X0_saying_6 post b0 x1 x2 x3 h n0 q0 q1) b0 x1 x2 x3 h x4 x5)) ∧ ((g_30 ((((nI 16) * x5) + x2)).toNatClampNeg) = x3 → (∀ z_37 : Int32, z_37 = (x4 ||| ((nI 1) <<< (x5 &&& 31))) → (w_X0_saying_56 post (fun (q0 : Int32) (q1 : Int32) => w_X0_saying_6 post b0 x1 x2 x3 h n0 q0 q1) b0 x1 x2 x3 h z_37 x5))))))))))))))))
def w_X0_saying (post : (Int32) → Prop) (b0 : Nat) (x1 : Int32) (x2 : Int32) (x3 : Int32) (h : AH) : Prop :=
 (∃ n1 : Nat, (w_X0_saying_6 post b0 x1 x2 x3 h n1 (nI 0) (nI 0)))
theorem b_X0_saying_56 {post : (Int32) → Prop}   {b0 : Nat} {x1 : Int32} {x2 : Int32} {x3 : Int32} {h : AH} {k6 : (Int32) → (Int32) → Prop}  (hk6 : ∀ (x4 : Int32) (x5 : Int32), k6 x4 x5 → VV l E X cX0_saying RX0 "saying" 6 r_X0_saying (some .int) (vpi (fun (r : Int32) (h' : AH) => h' = h ∧ post r)) h 0 0 6 [(0, va_rf (some b0)), (1, .int x1), (2, .int x2), (3, .int x3), (4, .int x4), (5, .int x5)] []) (x4 : Int32) (x5 : Int32) (hw : w_X0_saying_56 post k6 b0 x1 x2 x3 h x4 x5) : VV l E X cX0_saying RX0 "saying" 6 r_X0_saying (some .int) (vpi (fun (r : Int32) (h' : AH) => h' = h ∧ post r)) h 0 0 56 [(0, va_rf (some b0)), (1, .int x1), (2, .int x2), (3, .int x3), (4, .int x4), (5, .int x5)] [] := by
  obtain ⟨z_1, e_1⟩ : ∃ z9 : Int32, z9 = x5 + (nI 1) := ⟨_, rfl⟩
  replace hw := hw z_1 e_1
  refine v_iinc (q := 5) (v := z_1) (lv1 := [(5, .int z_1), (0, va_rf (some b0)), (1, .int x1), (2, .int x2), (3, .int x3), (4, .int x4)]) dX0_saying_56 rfl (by rw [e_1, ic_1]) (Nat.le_of_ble_eq_true rfl) rfl ?_
  refine v_goto (tgt := 6) dX0_saying_59 (by decide) ?_
  refine v_sub [1, 2, 3, 4, 5, 0] rfl ?_
  exact hk6 x4 z_1 hw
theorem b_X0_saying_6 {post : (Int32) → Prop}   {b0 : Nat} {x1 : Int32} {x2 : Int32} {x3 : Int32} {h : AH}    : ∀ (n0 : Nat) (x4 : Int32) (x5 : Int32), w_X0_saying_6 post b0 x1 x2 x3 h n0 x4 x5 → VV l E X cX0_saying RX0 "saying" 6 r_X0_saying (some .int) (vpi (fun (r : Int32) (h' : AH) => h' = h ∧ post r)) h 0 0 6 [(0, va_rf (some b0)), (1, .int x1), (2, .int x2), (3, .int x3), (4, .int x4), (5, .int x5)] [] := by
  intro n0
  induction n0 with
  | zero =>
    intro x4 x5 hw
    exact hw.elim
  | succ n0 ih =>
    intro x4 x5 hw
    refine v_iload (q := 5) dX0_saying_6 rfl ?_
    refine v_aload_n (q := 0) dX0_saying_8 rfl rfl ?_
    obtain ⟨fs_2, r_5, e_3, e_4, hw⟩ := hw
    refine v_get in_X0 (ci := 0) rfl 1 (Nat.le_of_ble_eq_true rfl) q319 rfl dX0_saying_9 e_3 e_4 ?_
    obtain ⟨a_6, ea_6, hw⟩ := hw
    subst ea_6
    obtain ⟨fs_7, z_10, e_8, e_9, hw⟩ := hw
    refine v_getN in_X1 (ci := 1) rfl 14 (Nat.le_of_ble_eq_true rfl) q248 rfl dX0_saying_12 e_8 e_9 ?_
    obtain ⟨hw_13, hw_14⟩ := hw
    refine v_icmp_ge (tgt := 62) dX0_saying_15 (by decide) (fun c_11 => ?_) (fun c_12 => ?_)
    · have hw := hw_13 c_11
      refine v_iload (q := 4) dX0_saying_62 rfl ?_
      exact v_iret dX0_saying_64 rfl ⟨_, rfl, rfl, hw⟩
    · have hw := hw_14 c_12
      refine v_iload_n (q := 1) dX0_saying_18 rfl rfl ?_
      refine v_iload (q := 5) dX0_saying_19 rfl ?_
      refine v_ishr dX0_saying_21 ?_
      refine v_iconst dX0_saying_22 ic_1 ?_
      refine v_iand dX0_saying_23 ?_
      refine v_iconst dX0_saying_24 ic_1 ?_
      obtain ⟨hw_17, hw_18⟩ := hw
      refine v_icmp_ne (tgt := 56) dX0_saying_25 (by decide) (fun c_15 => ?_) (fun c_16 => ?_)
      · have hw := hw_17 c_15
        refine v_sub [0, 1, 2, 3, 4, 5] rfl ?_
        exact b_X0_saying_56 (fun q0 q1 z => ih q0 q1 z) x4 x5 hw
      · have hw := hw_18 c_16
        refine v_aload_n (q := 0) dX0_saying_28 rfl rfl ?_
        obtain ⟨fs_19, r_22, e_20, e_21, hw⟩ := hw
        refine v_get in_X0 (ci := 0) rfl 1 (Nat.le_of_ble_eq_true rfl) q319 rfl dX0_saying_29 e_20 e_21 ?_
        obtain ⟨a_23, ea_23, hw⟩ := hw
        subst ea_23
        obtain ⟨fs_24, r_27, e_25, e_26, hw⟩ := hw
        refine v_getN in_X1 (ci := 1) rfl 13 (Nat.le_of_ble_eq_true rfl) q246 rfl dX0_saying_32 e_25 e_26 ?_
        refine v_bipush dX0_saying_35 bp_16 ?_
        refine v_iload (q := 5) dX0_saying_37 rfl ?_
        refine v_imul dX0_saying_39 ?_
        refine v_iload_n (q := 2) dX0_saying_40 rfl rfl ?_
        refine v_iadd dX0_saying_41 ?_
        obtain ⟨a_28, ea_28, hw⟩ := hw
        subst ea_28
        obtain ⟨N_29, g_30, e_31, hi_32, hw⟩ := hw
        refine v_iald dX0_saying_42 e_31 hi_32 ?_
        refine v_iload_n (q := 3) dX0_saying_43 rfl rfl ?_
        obtain ⟨hw_35, hw_36⟩ := hw
        refine v_icmp_ne (tgt := 56) dX0_saying_44 (by decide) (fun c_33 => ?_) (fun c_34 => ?_)
        · have hw := hw_35 c_33
          refine v_sub [0, 1, 2, 3, 4, 5] rfl ?_
          exact b_X0_saying_56 (fun q0 q1 z => ih q0 q1 z) x4 x5 hw
        · have hw := hw_36 c_34
          refine v_iload (q := 4) dX0_saying_47 rfl ?_
          refine v_iconst dX0_saying_49 ic_1 ?_
          refine v_iload (q := 5) dX0_saying_50 rfl ?_
          refine v_ishl dX0_saying_52 ?_
          refine v_ior dX0_saying_53 ?_
          refine v_topi (fun z_37 e_37 => ?_)
          replace hw := hw z_37 e_37
          refine v_istore (lv1 := [(4, .int z_37), (0, va_rf (some b0)), (1, .int x1), (2, .int x2), (3, .int x3), (5, .int x5)]) dX0_saying_54 (Nat.le_of_ble_eq_true rfl) rfl ?_
          refine v_sub [1, 2, 3, 4, 0, 5] rfl ?_
          exact b_X0_saying_56 (fun q0 q1 z => ih q0 q1 z) z_37 x5 hw
theorem e_X0_saying {post : (Int32) → Prop}   {b0 : Nat} {x1 : Int32} {x2 : Int32} {x3 : Int32} {h : AH}  (hw : w_X0_saying post  b0 x1 x2 x3 h) : VV l E X cX0_saying RX0 "saying" 6 r_X0_saying (some .int) (vpi (fun (r : Int32) (h' : AH) => h' = h ∧ post r)) h 0 0 0 [(0, va_rf (some b0)), (1, .int x1), (2, .int x2), (3, .int x3)] [] := by
  refine v_iconst dX0_saying_0 ic_0 ?_
  refine v_istore (lv1 := [(4, .int (nI 0)), (0, va_rf (some b0)), (1, .int x1), (2, .int x2), (3, .int x3)]) dX0_saying_1 (Nat.le_of_ble_eq_true rfl) rfl ?_
  refine v_iconst dX0_saying_3 ic_0 ?_
  refine v_istore (lv1 := [(5, .int (nI 0)), (4, .int (nI 0)), (0, va_rf (some b0)), (1, .int x1), (2, .int x2), (3, .int x3)]) dX0_saying_4 (Nat.le_of_ble_eq_true rfl) rfl ?_
  obtain ⟨n_38, hw⟩ := hw
  refine v_sub [2, 3, 4, 5, 1, 0] rfl ?_
  exact b_X0_saying_6 n_38 (nI 0) (nI 0) hw
theorem met_X0_saying {post : (Int32) → Prop}   {b0 : Nat} {x1 : Int32} {x2 : Int32} {x3 : Int32} {h : AH}  (hw : w_X0_saying post  b0 x1 x2 x3 h) : Mt l E yX0_saying (ws_ yX0_saying cX0_saying 6 (some .int)) r_X0_saying [va_rf (some b0), .int x1, .int x2, .int x3] h (vpi (fun (r : Int32) (h' : AH) => h' = h ∧ post r)) := v_entry (by decide +kernel) (Nat.le_of_ble_eq_true rfl) rfl (fun _ => e_X0_saying hw)
end WALK
