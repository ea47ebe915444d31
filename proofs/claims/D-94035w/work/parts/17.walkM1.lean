set_option maxRecDepth 100000
section WALK
variable {l : Launch} {E : VE} {X : VX} {b : Nat → Nat}
/-! X6_keyAt -/
abbrev r_X6_keyAt : Room := { frames := 7, cells := 0, slots := 0, locals := 421 }
theorem n_X6_keyAt : vdn yX6_keyAt 0 := ⟨by decide +kernel, by decide +kernel, by decide +kernel⟩
def w_X6_keyAt_97 (post : (Int32) → Prop) (k4 : (Int32) → (Int32) → Prop) (mi : Nat → Int32) (ma : Nat → Nat → Int32) (ml : Nat → Nat → Int64) : Nat → (Int32) → (Int32) → Prop
 | 0, _, _ => False
 | n0 + 1, x1, x2 =>
 (13 < 14 ∧ (w_J8_charAt (fun (z_1 : Int32) => ((z_1 = (nI 32) → (∀ z_6 : Int32, z_6 = x2 + (nI 1) → (∀ z_7 : Int32, z_7 = x1 + (nI 1) → (k4 z_7 z_6)))) ∧ (¬ z_1 = (nI 32) → (∀ z_8 : Int32, z_8 = x2 + (nI 1) → (w_X6_keyAt_97 post k4 mi ma ml n0 x1 z_8))))) 13 x2))
def w_X6_keyAt_69 (post : (Int32) → Prop) (k4 : (Int32) → (Int32) → Prop) (mi : Nat → Int32) (ma : Nat → Nat → Int32) (ml : Nat → Nat → Int64) (x1 : Int32) (x2 : Int32) (x3 : Int32) : Prop :=
 (13 < 14 ∧ (w_J8_charAt (fun (z_10 : Int32) => ((¬ z_10 = (nI 32) → (∃ n1 : Nat, (w_X6_keyAt_97 post k4 mi ma ml n1 x1 x2))) ∧ (z_10 = (nI 32) → ((¬ ((mi 10) + x3) = (mi 11) → (∃ n1 : Nat, (w_X6_keyAt_97 post k4 mi ma ml n1 x1 x2))) ∧ (((mi 10) + x3) = (mi 11) → (post x1)))))) 13 (x2 + x3)))
def w_X6_keyAt_15 (post : (Int32) → Prop) (k4 : (Int32) → (Int32) → Prop) (mi : Nat → Int32) (ma : Nat → Nat → Int32) (ml : Nat → Nat → Int64) : Nat → (Int32) → (Int32) → (Int32) → Prop
 | 0, _, _, _ => False
 | n0 + 1, x1, x2, x3 =>
 (13 < 14 ∧ (w_J8_charAt (fun (z_22 : Int32) => ((z_22 = (nI 32) → (w_X6_keyAt_69 post k4 mi ma ml x1 x2 x3)) ∧ (¬ z_22 = (nI 32) → (((mi 11) ≤ ((mi 10) + x3) → (w_X6_keyAt_69 post k4 mi ma ml x1 x2 x3)) ∧ (¬ (mi 11) ≤ ((mi 10) + x3) → (vp_in ((mi 10) + x3) 400 ∧ (13 < 14 ∧ (w_J8_charAt (fun (z_32 : Int32) => ((¬ (ma 8 (((mi 10) + x3)).toNatClampNeg) = z_32 → (w_X6_keyAt_69 post k4 mi ma ml x1 x2 x3)) ∧ ((ma 8 (((mi 10) + x3)).toNatClampNeg) = z_32 → (∀ z_37 : Int32, z_37 = x3 + (nI 1) → (w_X6_keyAt_15 post k4 mi ma ml n0 x1 x2 z_37))))) 13 (x2 + x3))))))))) 13 (x2 + x3)))
def w_X6_keyAt_4 (post : (Int32) → Prop) (mi : Nat → Int32) (ma : Nat → Nat → Int32) (ml : Nat → Nat → Int64) : Nat → (Int32) → (Int32) → Prop
 | 0, _, _ => False
 | n0 + 1, x1, x2 =>
 (13 < 14 ∧ (w_J8_length (fun (z_40 : Int32) => ((z_40 ≤ x2 → (post (nI 13))) ∧ (¬ z_40 ≤ x2 → (∃ n1 : Nat, (w_X6_keyAt_15 post (fun (q0 : Int32) (q1 : Int32) => w_X6_keyAt_4 post mi ma ml n0 q0 q1) mi ma ml n1 x1 x2 (nI 0)))))) 13))
def w_X6_keyAt (post : (Int32) → Prop) (mi : Nat → Int32) (ma : Nat → Nat → Int32) (ml : Nat → Nat → Int64) : Prop :=
 (∃ n1 : Nat, (w_X6_keyAt_4 post mi ma ml n1 (nI 0) (nI 1)))
theorem b_X6_keyAt_97 {post : (Int32) → Prop}   {mi : Nat → Int32} {ma : Nat → Nat → Int32} {ml : Nat → Nat → Int64} {k4 : (Int32) → (Int32) → Prop} (hb : mOK b)  (hk4 : ∀ (x1 : Int32) (x2 : Int32), k4 x1 x2 → VV l E X cX6_keyAt RX6 "keyAt" 4 r_X6_keyAt (some .int) (vpi (fun (r : Int32) (h' : AH) => h' = (mH b mi ma ml) ∧ post r)) (mH b mi ma ml) 0 0 4 [(0, va_rf (some (b 0))), (1, .int x1), (2, .int x2)] []) : ∀ (n0 : Nat) (x1 : Int32) (x2 : Int32), w_X6_keyAt_97 post k4 mi ma ml n0 x1 x2 → VV l E X cX6_keyAt RX6 "keyAt" 4 r_X6_keyAt (some .int) (vpi (fun (r : Int32) (h' : AH) => h' = (mH b mi ma ml) ∧ post r)) (mH b mi ma ml) 0 0 97 [(0, va_rf (some (b 0))), (1, .int x1), (2, .int x2)] [] := by
  intro n0
  induction n0 with
  | zero =>
    intro x1 x2 hw
    exact hw.elim
  | succ n0 ih =>
    intro x1 x2 hw
    refine v_ldcS dX6_keyAt_97 (i := 13) rfl ?_
    refine v_iload_n (q := 2) dX6_keyAt_99 rfl rfl ?_
    obtain ⟨hi_9, hw⟩ := hw
    refine v_callStr hi_9 q1812 q771 q772 q125 q773 rfl n_J8_charAt ⟨Nat.le_of_ble_eq_true rfl, Nat.le_of_ble_eq_true rfl⟩ [.int x2] [] (met_J8_charAt hi_9 hw) rfl (Nat.zero_le _) ⟨Nat.le_refl _, Nat.le_refl _⟩ dX6_keyAt_100 rfl (v_ki (fun z_1 h1 hv => ?_))
    clear hw
    obtain ⟨e9, hw⟩ := hv
    refine v_heap e9 ?_
    clear e9
    refine v_bipush dX6_keyAt_103 bp_32 ?_
    obtain ⟨hw_4, hw_5⟩ := hw
    refine v_icmp_eq (tgt := 114) dX6_keyAt_105 (by decide) (fun c_2 => ?_) (fun c_3 => ?_)
    · have hw := hw_4 c_2
      obtain ⟨z_6, e_6⟩ : ∃ z9 : Int32, z9 = x2 + (nI 1) := ⟨_, rfl⟩
      replace hw := hw z_6 e_6
      refine v_iinc (q := 2) (v := z_6) (lv1 := [(2, .int z_6), (0, va_rf (some (b 0))), (1, .int x1)]) dX6_keyAt_114 rfl (by rw [e_6, ic_1]) (Nat.le_of_ble_eq_true rfl) rfl ?_
      obtain ⟨z_7, e_7⟩ : ∃ z9 : Int32, z9 = x1 + (nI 1) := ⟨_, rfl⟩
      replace hw := hw z_7 e_7
      refine v_iinc (q := 2) (v := z_7) (lv1 := [(1, .int z_7), (2, .int z_6), (0, va_rf (some (b 0)))]) dX6_keyAt_117 rfl (by rw [e_7, ic_1]) (Nat.le_of_ble_eq_true rfl) rfl ?_
      refine v_goto (tgt := 4) dX6_keyAt_120 (by decide) ?_
      refine v_sub [2, 0, 1] rfl ?_
      exact hk4 z_7 z_6 hw
    · have hw := hw_5 c_3
      obtain ⟨z_8, e_8⟩ : ∃ z9 : Int32, z9 = x2 + (nI 1) := ⟨_, rfl⟩
      replace hw := hw z_8 e_8
      refine v_iinc (q := 2) (v := z_8) (lv1 := [(2, .int z_8), (0, va_rf (some (b 0))), (1, .int x1)]) dX6_keyAt_108 rfl (by rw [e_8, ic_1]) (Nat.le_of_ble_eq_true rfl) rfl ?_
      refine v_goto (tgt := 97) dX6_keyAt_111 (by decide) ?_
      refine v_sub [1, 2, 0] rfl ?_
      exact ih x1 z_8 hw
theorem b_X6_keyAt_69 {post : (Int32) → Prop}   {mi : Nat → Int32} {ma : Nat → Nat → Int32} {ml : Nat → Nat → Int64} {k4 : (Int32) → (Int32) → Prop} (hb : mOK b)  (hk4 : ∀ (x1 : Int32) (x2 : Int32), k4 x1 x2 → VV l E X cX6_keyAt RX6 "keyAt" 4 r_X6_keyAt (some .int) (vpi (fun (r : Int32) (h' : AH) => h' = (mH b mi ma ml) ∧ post r)) (mH b mi ma ml) 0 0 4 [(0, va_rf (some (b 0))), (1, .int x1), (2, .int x2)] []) (x1 : Int32) (x2 : Int32) (x3 : Int32) (hw : w_X6_keyAt_69 post k4 mi ma ml x1 x2 x3) : VV l E X cX6_keyAt RX6 "keyAt" 4 r_X6_keyAt (some .int) (vpi (fun (r : Int32) (h' : AH) => h' = (mH b mi ma ml) ∧ post r)) (mH b mi ma ml) 0 0 69 [(0, va_rf (some (b 0))), (1, .int x1), (2, .int x2), (3, .int x3)] [] := by
  refine v_ldcS dX6_keyAt_69 (i := 13) rfl ?_
  refine v_iload_n (q := 2) dX6_keyAt_71 rfl rfl ?_
  refine v_iload_n (q := 3) dX6_keyAt_72 rfl rfl ?_
  refine v_iadd dX6_keyAt_73 ?_
  obtain ⟨hi_21, hw⟩ := hw
  refine v_callStr hi_21 q1812 q771 q772 q125 q773 rfl n_J8_charAt ⟨Nat.le_of_ble_eq_true rfl, Nat.le_of_ble_eq_true rfl⟩ [.int (x2 + x3)] [] (met_J8_charAt hi_21 hw) rfl (Nat.zero_le _) ⟨Nat.le_refl _, Nat.le_refl _⟩ dX6_keyAt_74 rfl (v_ki (fun z_10 h1 hv => ?_))
  clear hw
  obtain ⟨e9, hw⟩ := hv
  refine v_heap e9 ?_
  clear e9
  refine v_bipush dX6_keyAt_77 bp_32 ?_
  obtain ⟨hw_13, hw_14⟩ := hw
  refine v_icmp_ne (tgt := 97) dX6_keyAt_79 (by decide) (fun c_11 => ?_) (fun c_12 => ?_)
  · have hw := hw_13 c_11
    obtain ⟨n_15, hw⟩ := hw
    refine v_sub [0, 1, 2] rfl ?_
    exact b_X6_keyAt_97 hb hk4 n_15 x1 x2 hw
  · have hw := hw_14 c_12
    refine v_aload_n (q := 0) dX6_keyAt_82 rfl rfl ?_
    refine vm_get hb 10 (Nat.le_of_ble_eq_true rfl) q1624 rfl dX6_keyAt_83 rfl ?_
    refine v_iload_n (q := 3) dX6_keyAt_86 rfl rfl ?_
    refine v_iadd dX6_keyAt_87 ?_
    refine v_aload_n (q := 0) dX6_keyAt_88 rfl rfl ?_
    refine vm_get hb 11 (Nat.le_of_ble_eq_true rfl) q1625 rfl dX6_keyAt_89 rfl ?_
    obtain ⟨hw_18, hw_19⟩ := hw
    refine v_icmp_ne (tgt := 97) dX6_keyAt_92 (by decide) (fun c_16 => ?_) (fun c_17 => ?_)
    · have hw := hw_18 c_16
      obtain ⟨n_20, hw⟩ := hw
      refine v_sub [0, 1, 2] rfl ?_
      exact b_X6_keyAt_97 hb hk4 n_20 x1 x2 hw
    · have hw := hw_19 c_17
      refine v_iload_n (q := 1) dX6_keyAt_95 rfl rfl ?_
      exact v_iret dX6_keyAt_96 rfl ⟨_, rfl, rfl, hw⟩
theorem b_X6_keyAt_15 {post : (Int32) → Prop}   {mi : Nat → Int32} {ma : Nat → Nat → Int32} {ml : Nat → Nat → Int64} {k4 : (Int32) → (Int32) → Prop} (hb : mOK b)  (hk4 : ∀ (x1 : Int32) (x2 : Int32), k4 x1 x2 → VV l E X cX6_keyAt RX6 "keyAt" 4 r_X6_keyAt (some .int) (vpi (fun (r : Int32) (h' : AH) => h' = (mH b mi ma ml) ∧ post r)) (mH b mi ma ml) 0 0 4 [(0, va_rf (some (b 0))), (1, .int x1), (2, .int x2)] []) : ∀ (n0 : Nat) (x1 : Int32) (x2 : Int32) (x3 : Int32), w_X6_keyAt_15 post k4 mi ma ml n0 x1 x2 x3 → VV l E X cX6_keyAt RX6 "keyAt" 4 r_X6_keyAt (some .int) (vpi (fun (r : Int32) (h' : AH) => h' = (mH b mi ma ml) ∧ post r)) (mH b mi ma ml) 0 0 15 [(0, va_rf (some (b 0))), (1, .int x1), (2, .int x2), (3, .int x3)] [] := by
  intro n0
  induction n0 with
  | zero =>
    intro x1 x2 x3 hw
    exact hw.elim
  | succ n0 ih =>
    intro x1 x2 x3 hw
    refine v_ldcS dX6_keyAt_15 (i := 13) rfl ?_
    refine v_iload_n (q := 2) dX6_keyAt_17 rfl rfl ?_
    refine v_iload_n (q := 3) dX6_keyAt_18 rfl rfl ?_
    refine v_iadd dX6_keyAt_19 ?_
    obtain ⟨hi_39, hw⟩ := hw
    refine v_callStr hi_39 q1812 q771 q772 q125 q773 rfl n_J8_charAt ⟨Nat.le_of_ble_eq_true rfl, Nat.le_of_ble_eq_true rfl⟩ [.int (x2 + x3)] [] (met_J8_charAt hi_39 hw) rfl (Nat.zero_le _) ⟨Nat.le_refl _, Nat.le_refl _⟩ dX6_keyAt_20 rfl (v_ki (fun z_22 h1 hv => ?_))
    clear hw
    obtain ⟨e9, hw⟩ := hv
    refine v_heap e9 ?_
    clear e9
    refine v_bipush dX6_keyAt_23 bp_32 ?_
    obtain ⟨hw_25, hw_26⟩ := hw
    refine v_icmp_eq (tgt := 69) dX6_keyAt_25 (by decide) (fun c_23 => ?_) (fun c_24 => ?_)
    · have hw := hw_25 c_23
      refine v_sub [0, 1, 2, 3] rfl ?_
      exact b_X6_keyAt_69 hb hk4 x1 x2 x3 hw
    · have hw := hw_26 c_24
      refine v_aload_n (q := 0) dX6_keyAt_28 rfl rfl ?_
      refine vm_get hb 10 (Nat.le_of_ble_eq_true rfl) q1624 rfl dX6_keyAt_29 rfl ?_
      refine v_iload_n (q := 3) dX6_keyAt_32 rfl rfl ?_
      refine v_iadd dX6_keyAt_33 ?_
      refine v_aload_n (q := 0) dX6_keyAt_34 rfl rfl ?_
      refine vm_get hb 11 (Nat.le_of_ble_eq_true rfl) q1625 rfl dX6_keyAt_35 rfl ?_
      obtain ⟨hw_29, hw_30⟩ := hw
      refine v_icmp_ge (tgt := 69) dX6_keyAt_38 (by decide) (fun c_27 => ?_) (fun c_28 => ?_)
      · have hw := hw_29 c_27
        refine v_sub [0, 1, 2, 3] rfl ?_
        exact b_X6_keyAt_69 hb hk4 x1 x2 x3 hw
      · have hw := hw_30 c_28
        refine v_aload_n (q := 0) dX6_keyAt_41 rfl rfl ?_
        refine vm_get hb 8 (Nat.le_of_ble_eq_true rfl) q1622 rfl dX6_keyAt_42 rfl ?_
        refine v_aload_n (q := 0) dX6_keyAt_45 rfl rfl ?_
        refine vm_get hb 10 (Nat.le_of_ble_eq_true rfl) q1624 rfl dX6_keyAt_46 rfl ?_
        refine v_iload_n (q := 3) dX6_keyAt_49 rfl rfl ?_
        refine v_iadd dX6_keyAt_50 ?_
        obtain ⟨hi_31, hw⟩ := hw
        refine v_iald dX6_keyAt_51 (mH_ar8 hb) hi_31 ?_
        refine v_ldcS dX6_keyAt_52 (i := 13) rfl ?_
        refine v_iload_n (q := 2) dX6_keyAt_54 rfl rfl ?_
        refine v_iload_n (q := 3) dX6_keyAt_55 rfl rfl ?_
        refine v_iadd dX6_keyAt_56 ?_
        obtain ⟨hi_38, hw⟩ := hw
        refine v_callStr hi_38 q1812 q771 q772 q125 q773 rfl n_J8_charAt ⟨Nat.le_of_ble_eq_true rfl, Nat.le_of_ble_eq_true rfl⟩ [.int (x2 + x3)] [.int (ma 8 (((mi 10) + x3)).toNatClampNeg)] (met_J8_charAt hi_38 hw) rfl (Nat.le_of_ble_eq_true rfl) ⟨Nat.le_refl _, Nat.le_refl _⟩ dX6_keyAt_57 rfl (v_ki (fun z_32 h1 hv => ?_))
        clear hw
        obtain ⟨e9, hw⟩ := hv
        refine v_heap e9 ?_
        clear e9
        obtain ⟨hw_35, hw_36⟩ := hw
        refine v_icmp_ne (tgt := 69) dX6_keyAt_60 (by decide) (fun c_33 => ?_) (fun c_34 => ?_)
        · have hw := hw_35 c_33
          refine v_sub [0, 1, 2, 3] rfl ?_
          exact b_X6_keyAt_69 hb hk4 x1 x2 x3 hw
        · have hw := hw_36 c_34
          obtain ⟨z_37, e_37⟩ : ∃ z9 : Int32, z9 = x3 + (nI 1) := ⟨_, rfl⟩
          replace hw := hw z_37 e_37
          refine v_iinc (q := 3) (v := z_37) (lv1 := [(3, .int z_37), (0, va_rf (some (b 0))), (1, .int x1), (2, .int x2)]) dX6_keyAt_63 rfl (by rw [e_37, ic_1]) (Nat.le_of_ble_eq_true rfl) rfl ?_
          refine v_goto (tgt := 15) dX6_keyAt_66 (by decide) ?_
          refine v_sub [1, 2, 3, 0] rfl ?_
          exact ih x1 x2 z_37 hw
theorem b_X6_keyAt_4 {post : (Int32) → Prop}   {mi : Nat → Int32} {ma : Nat → Nat → Int32} {ml : Nat → Nat → Int64}  (hb : mOK b)   : ∀ (n0 : Nat) (x1 : Int32) (x2 : Int32), w_X6_keyAt_4 post mi ma ml n0 x1 x2 → VV l E X cX6_keyAt RX6 "keyAt" 4 r_X6_keyAt (some .int) (vpi (fun (r : Int32) (h' : AH) => h' = (mH b mi ma ml) ∧ post r)) (mH b mi ma ml) 0 0 4 [(0, va_rf (some (b 0))), (1, .int x1), (2, .int x2)] [] := by
  intro n0
  induction n0 with
  | zero =>
    intro x1 x2 hw
    exact hw.elim
  | succ n0 ih =>
    intro x1 x2 hw
    refine v_iload_n (q := 2) dX6_keyAt_4 rfl rfl ?_
    refine v_ldcS dX6_keyAt_5 (i := 13) rfl ?_
    obtain ⟨hi_46, hw⟩ := hw
    refine v_callStr hi_46 q1811 q761 q762 q125 q763 rfl n_J8_length ⟨Nat.le_of_ble_eq_true rfl, Nat.le_of_ble_eq_true rfl⟩ [] [.int x2] (met_J8_length hi_46 hw) rfl (Nat.le_of_ble_eq_true rfl) ⟨Nat.le_refl _, Nat.le_refl _⟩ dX6_keyAt_7 rfl (v_ki (fun z_40 h1 hv => ?_))
    clear hw
    obtain ⟨e9, hw⟩ := hv
    refine v_heap e9 ?_
    clear e9
    obtain ⟨hw_43, hw_44⟩ := hw
    refine v_icmp_ge (tgt := 123) dX6_keyAt_10 (by decide) (fun c_41 => ?_) (fun c_42 => ?_)
    · have hw := hw_43 c_41
      refine v_bipush dX6_keyAt_123 bp_13 ?_
      exact v_iret dX6_keyAt_125 rfl ⟨_, rfl, rfl, hw⟩
    · have hw := hw_44 c_42
      refine v_iconst dX6_keyAt_13 ic_0 ?_
      refine v_istore_n (lv1 := [(3, .int (nI 0)), (0, va_rf (some (b 0))), (1, .int x1), (2, .int x2)]) dX6_keyAt_14 rfl (Nat.le_of_ble_eq_true rfl) rfl ?_
      obtain ⟨n_45, hw⟩ := hw
      refine v_sub [1, 2, 3, 0] rfl ?_
      exact b_X6_keyAt_15 hb (fun q0 q1 z => ih q0 q1 z) n_45 x1 x2 (nI 0) hw
theorem e_X6_keyAt {post : (Int32) → Prop}   {mi : Nat → Int32} {ma : Nat → Nat → Int32} {ml : Nat → Nat → Int64} (hb : mOK b)  (hw : w_X6_keyAt post  mi ma ml) : VV l E X cX6_keyAt RX6 "keyAt" 4 r_X6_keyAt (some .int) (vpi (fun (r : Int32) (h' : AH) => h' = (mH b mi ma ml) ∧ post r)) (mH b mi ma ml) 0 0 0 [(0, va_rf (some (b 0)))] [] := by
  refine v_iconst dX6_keyAt_0 ic_0 ?_
  refine v_istore_n (lv1 := [(1, .int (nI 0)), (0, va_rf (some (b 0)))]) dX6_keyAt_1 rfl (Nat.le_of_ble_eq_true rfl) rfl ?_
  refine v_iconst dX6_keyAt_2 ic_1 ?_
  refine v_istore_n (lv1 := [(2, .int (nI 1)), (1, .int (nI 0)), (0, va_rf (some (b 0)))]) dX6_keyAt_3 rfl (Nat.le_of_ble_eq_true rfl) rfl ?_
  obtain ⟨n_47, hw⟩ := hw
  refine v_sub [2, 1, 0] rfl ?_
  exact b_X6_keyAt_4 hb n_47 (nI 0) (nI 1) hw
theorem met_X6_keyAt {post : (Int32) → Prop}   {mi : Nat → Int32} {ma : Nat → Nat → Int32} {ml : Nat → Nat → Int64} (hb : mOK b)  (hw : w_X6_keyAt post  mi ma ml) : Mt l E yX6_keyAt (ws_ yX6_keyAt cX6_keyAt 4 (some .int)) r_X6_keyAt [va_rf (some (b 0))] (mH b mi ma ml) (vpi (fun (r : Int32) (h' : AH) => h' = (mH b mi ma ml) ∧ post r)) := v_entry (by decide +kernel) (Nat.le_of_ble_eq_true rfl) rfl (fun _ => e_X6_keyAt hb hw)
/-! X6_isDigit -/
abbrev r_X6_isDigit : Room := { frames := 0, cells := 0, slots := 0, locals := 0 }
theorem n_X6_isDigit : vdn yX6_isDigit 1 := ⟨by decide +kernel, by decide +kernel, by decide +kernel⟩
def w_X6_isDigit (post : (Int32) → Prop) (x0 : Int32) : Prop :=
 ((x0 < (nI 48) → (post (nI 0))) ∧ (¬ x0 < (nI 48) → (((nI 57) < x0 → (post (nI 0))) ∧ (¬ (nI 57) < x0 → (post (nI 1))))))
theorem e_X6_isDigit {post : (Int32) → Prop}   {x0 : Int32} {h : AH}  (hw : w_X6_isDigit post  x0) : VV l E X cX6_isDigit RX6 "isDigit" 1 r_X6_isDigit (some .boolean) (vpi (fun (r : Int32) (h' : AH) => h' = h ∧ post r)) h 0 0 0 [(0, .int x0)] [] := by
  refine v_iload_n (q := 0) dX6_isDigit_0 rfl rfl ?_
  refine v_bipush dX6_isDigit_1 bp_48 ?_
  obtain ⟨hw_3, hw_4⟩ := hw
  refine v_icmp_lt (tgt := 16) dX6_isDigit_3 (by decide) (fun c_1 => ?_) (fun c_2 => ?_)
  · have hw := hw_3 c_1
    refine v_iconst dX6_isDigit_16 ic_0 ?_
    exact v_zret dX6_isDigit_17 rfl rfl ⟨_, rfl, rfl, hw⟩
  · have hw := hw_4 c_2
    refine v_iload_n (q := 0) dX6_isDigit_6 rfl rfl ?_
    refine v_bipush dX6_isDigit_7 bp_57 ?_
    obtain ⟨hw_7, hw_8⟩ := hw
    refine v_icmp_gt (tgt := 16) dX6_isDigit_9 (by decide) (fun c_5 => ?_) (fun c_6 => ?_)
    · have hw := hw_7 c_5
      refine v_iconst dX6_isDigit_16 ic_0 ?_
      exact v_zret dX6_isDigit_17 rfl rfl ⟨_, rfl, rfl, hw⟩
    · have hw := hw_8 c_6
      refine v_iconst dX6_isDigit_12 ic_1 ?_
      refine v_goto (tgt := 17) dX6_isDigit_13 (by decide) ?_
      exact v_zret dX6_isDigit_17 rfl rfl ⟨_, rfl, rfl, hw⟩
theorem met_X6_isDigit {post : (Int32) → Prop}   {x0 : Int32} {h : AH}  (hw : w_X6_isDigit post  x0) : Mt l E yX6_isDigit (ws_ yX6_isDigit cX6_isDigit 1 (some .boolean)) r_X6_isDigit [.int x0] h (vpi (fun (r : Int32) (h' : AH) => h' = h ∧ post r)) := v_entry (by decide +kernel) (Nat.le_of_ble_eq_true rfl) rfl (fun _ => e_X6_isDigit hw)
/-! X6_next -/
abbrev r_X6_next : Room := { frames := 8, cells := 0, slots := 0, locals := 444 }
theorem n_X6_next : vdn yX6_next 0 := ⟨by decide +kernel, by decide +kernel, by decide +kernel⟩
def w_X6_next_34 (post : (Nat → Int32) → Prop) (k8 : (Nat → Int32) → Prop) (ma : Nat → Nat → Int32) (ml : Nat → Nat → Int64) (mi : Nat → Int32) : Prop :=
 (∀ mi_1 : Nat → Int32, mi_1 = upd mi 10 ((mi 10) + (nI 1)) → (k8 mi_1))
def w_X6_next_89 (post : (Nat → Int32) → Prop) (ma : Nat → Nat → Int32) (ml : Nat → Nat → Int64) : Nat → (Nat → Int32) → Prop
 | 0, _ => False
 | n0 + 1, mi =>
 (w_X6_see (fun (z_2 : Int32) => (w_X6_isSmall (fun (z_3 : Int32) => ((z_3 = 0 → (w_X6_keyAt (fun (z_8 : Int32) => (∀ mi_9 : Nat → Int32, mi_9 = upd mi 13 z_8 → (post mi_9))) mi ma ml)) ∧ (¬ z_3 = 0 → (∀ mi_10 : Nat → Int32, mi_10 = upd mi 11 ((mi 11) + (nI 1)) → (w_X6_next_89 post ma ml n0 mi_10))))) z_2)) (mi 11) mi ma ml)
def w_X6_next_196 (post : (Nat → Int32) → Prop) (k146 : (Nat → Int32) → Prop) (ma : Nat → Nat → Int32) (ml : Nat → Nat → Int64) (mi : Nat → Int32) : Prop :=
 (∀ mi_11 : Nat → Int32, mi_11 = upd mi 11 ((mi 11) + (nI 1)) → (k146 mi_11))
def w_X6_next_230 (post : (Nat → Int32) → Prop) (ma : Nat → Nat → Int32) (ml : Nat → Nat → Int64) (s0 : Int32) (mi : Nat → Int32) : Prop :=
 (∀ mi_12 : Nat → Int32, mi_12 = upd mi 13 s0 → (post mi_12))
def w_X6_next_146 (post : (Nat → Int32) → Prop) (ma : Nat → Nat → Int32) (ml : Nat → Nat → Int64) : Nat → (Nat → Int32) → Prop
 | 0, _ => False
 | n0 + 1, mi =>
 (w_X6_see (fun (z_13 : Int32) => (w_X6_isDigit (fun (z_14 : Int32) => ((z_14 = 0 → ((((mi 11) - (mi 10)) ≤ (nI 3) → (w_X6_next_230 post ma ml (nI 14) mi)) ∧ (¬ ((mi 11) - (mi 10)) ≤ (nI 3) → (w_X6_next_230 post ma ml (nI 19) mi)))) ∧ (¬ z_14 = 0 → (((nI 3) ≤ ((mi 11) - (mi 10)) → (w_X6_next_196 post (fun (q0 : Nat → Int32) => w_X6_next_146 post ma ml n0 q0) ma ml mi)) ∧ (¬ (nI 3) ≤ ((mi 11) - (mi 10)) → (w_X6_see (fun (z_27 : Int32) => (∀ mi_28 : Nat → Int32, mi_28 = upd mi 14 ((((nI 10) * (mi 14)) + z_27) - (nI 48)) → (w_X6_next_196 post (fun (q0 : Nat → Int32) => w_X6_next_146 post ma ml n0 q0) ma ml mi_28))) (mi 11) mi ma ml)))))) z_13)) (mi 11) mi ma ml)
def w_X6_next_303 (post : (Nat → Int32) → Prop) (ma : Nat → Nat → Int32) (ml : Nat → Nat → Int64) (s0 : Int32) (mi : Nat → Int32) : Prop :=
 (∀ mi_29 : Nat → Int32, mi_29 = upd mi 13 s0 → (post mi_29))
def w_X6_next_8 (post : (Nat → Int32) → Prop) (ma : Nat → Nat → Int32) (ml : Nat → Nat → Int64) : Nat → (Nat → Int32) → Prop
 | 0, _ => False
 | n0 + 1, mi =>
 (w_X6_see (fun (z_30 : Int32) => ((z_30 = (nI 10) → (w_X6_next_34 post (fun (q0 : Nat → Int32) => w_X6_next_8 post ma ml n0 q0) ma ml mi)) ∧ (¬ z_30 = (nI 10) → (w_X6_see (fun (z_35 : Int32) => ((¬ z_35 = (nI 32) → (∀ mi_40 : Nat → Int32, mi_40 = upd mi 11 (mi 10) → (((mi_40 10) < (mi_40 12) → (w_X6_see (fun (z_45 : Int32) => (w_X6_isSmall (fun (z_46 : Int32) => ((z_46 = 0 → (w_X6_see (fun (z_51 : Int32) => (w_X6_isDigit (fun (z_52 : Int32) => ((z_52 = 0 → (∀ mi_57 : Nat → Int32, mi_57 = upd mi_40 11 ((mi_40 11) + (nI 1)) → (w_X6_see (fun (z_58 : Int32) => ((¬ z_58 = (nI 59) → (w_X6_see (fun (z_63 : Int32) => ((¬ z_63 = (nI 40) → (w_X6_see (fun (z_68 : Int32) => ((¬ z_68 = (nI 41) → (w_X6_next_303 post ma ml (nI 19) mi_57)) ∧ (z_68 = (nI 41) → (w_X6_next_303 post ma ml (nI 17) mi_57)))) (mi_57 10) mi_57 ma ml)) ∧ (z_63 = (nI 40) → (w_X6_next_303 post ma ml (nI 16) mi_57)))) (mi_57 10) mi_57 ma ml)) ∧ (z_58 = (nI 59) → (w_X6_next_303 post ma ml (nI 15) mi_57)))) (mi_57 10) mi_57 ma ml))) ∧ (¬ z_52 = 0 → (∀ mi_73 : Nat → Int32, mi_73 = upd mi_40 14 (nI 0) → (∃ n1 : Nat, (w_X6_next_146 post ma ml n1 mi_73)))))) z_51)) (mi_40 10) mi_40 ma ml)) ∧ (¬ z_46 = 0 → (∃ n1 : Nat, (w_X6_next_89 post ma ml n1 mi_40))))) z_45)) (mi_40 10) mi_40 ma ml)) ∧ (¬ (mi_40 10) < (mi_40 12) → (∀ mi_76 : Nat → Int32, mi_76 = upd mi_40 13 (nI 18) → (post mi_76)))))) ∧ (z_35 = (nI 32) → (w_X6_next_34 post (fun (q0 : Nat → Int32) => w_X6_next_8 post ma ml n0 q0) ma ml mi)))) (mi 10) mi ma ml)))) (mi 10) mi ma ml)
def w_X6_next (post : (Nat → Int32) → Prop) (mi : Nat → Int32) (ma : Nat → Nat → Int32) (ml : Nat → Nat → Int64) : Prop :=
 (∀ mi_77 : Nat → Int32, mi_77 = upd mi 10 (mi 11) → (∃ n1 : Nat, (w_X6_next_8 post ma ml n1 mi_77)))
theorem b_X6_next_34 {post : (Nat → Int32) → Prop}   {ma : Nat → Nat → Int32} {ml : Nat → Nat → Int64} {k8 : (Nat → Int32) → Prop} (hb : mOK b)  (hk8 : ∀ (mi : Nat → Int32), k8 mi → VV l E X cX6_next RX6 "next" 1 r_X6_next none (vpv (fun (h' : AH) => ∃ (mi' : Nat → Int32), h' = (mH b mi' ma ml) ∧ post mi')) (mH b mi ma ml) 0 0 8 [(0, va_rf (some (b 0)))] []) (mi : Nat → Int32) (hw : w_X6_next_34 post k8 ma ml mi) : VV l E X cX6_next RX6 "next" 1 r_X6_next none (vpv (fun (h' : AH) => ∃ (mi' : Nat → Int32), h' = (mH b mi' ma ml) ∧ post mi')) (mH b mi ma ml) 0 0 34 [(0, va_rf (some (b 0)))] [] := by
  refine v_aload_n (q := 0) dX6_next_34 rfl rfl ?_
  refine v_dup dX6_next_35 (v_rf1 _) ?_
  refine vm_get hb 10 (Nat.le_of_ble_eq_true rfl) q1624 rfl dX6_next_36 rfl ?_
  refine v_iconst dX6_next_39 ic_1 ?_
  refine v_iadd dX6_next_40 ?_
  obtain ⟨mi_1, emi_1⟩ : ∃ z9 : Nat → Int32, z9 = upd mi 10 ((mi 10) + (nI 1)) := ⟨_, rfl⟩
  replace hw := hw mi_1 emi_1
  refine vm_put hb 10 (Nat.le_of_ble_eq_true rfl) q1624 rfl rfl rfl dX6_next_41 emi_1 rfl ?_
  refine v_goto (tgt := 8) dX6_next_44 (by decide) ?_
  refine v_sub [0] rfl ?_
  exact hk8 mi_1 hw
theorem b_X6_next_89 {post : (Nat → Int32) → Prop}   {ma : Nat → Nat → Int32} {ml : Nat → Nat → Int64}  (hb : mOK b)   : ∀ (n0 : Nat) (mi : Nat → Int32), w_X6_next_89 post ma ml n0 mi → VV l E X cX6_next RX6 "next" 1 r_X6_next none (vpv (fun (h' : AH) => ∃ (mi' : Nat → Int32), h' = (mH b mi' ma ml) ∧ post mi')) (mH b mi ma ml) 0 0 89 [(0, va_rf (some (b 0)))] [] := by
  intro n0
  induction n0 with
  | zero =>
    intro mi hw
    exact hw.elim
  | succ n0 ih =>
    intro mi hw
    refine v_aload_n (q := 0) dX6_next_89 rfl rfl ?_
    refine v_aload_n (q := 0) dX6_next_90 rfl rfl ?_
    refine vm_get hb 11 (Nat.le_of_ble_eq_true rfl) q1625 rfl dX6_next_91 rfl ?_
    refine v_callV q1799 q1801 qs58 q113 q1802 (ci := 7) rfl (mH_obj hb) n_X6_see ⟨Nat.le_of_ble_eq_true rfl, Nat.le_of_ble_eq_true rfl⟩ [.int (mi 11)] [] (met_X6_see hb hw) rfl (Nat.zero_le _) ⟨Nat.le_refl _, Nat.le_refl _⟩ dX6_next_94 rfl (v_ki (fun z_2 h1 hv => ?_))
    clear hw
    obtain ⟨e9, hw⟩ := hv
    refine v_heap e9 ?_
    clear e9
    refine v_callS q1803 q1804 q113 q1805 n_X6_isSmall ⟨Nat.le_of_ble_eq_true rfl, Nat.le_of_ble_eq_true rfl⟩ [.int z_2] [] (met_X6_isSmall hw) rfl (Nat.zero_le _) ⟨Nat.le_refl _, Nat.le_refl _⟩ dX6_next_97 rfl (v_ki (fun z_3 h1 hv => ?_))
    clear hw
    obtain ⟨e9, hw⟩ := hv
    refine v_heap e9 ?_
    clear e9
    obtain ⟨hw_6, hw_7⟩ := hw
    refine v_if_eq (tgt := 116) dX6_next_100 (by decide) (fun c_4 => ?_) (fun c_5 => ?_)
    · have hw := hw_6 c_4
      refine v_aload_n (q := 0) dX6_next_116 rfl rfl ?_
      refine v_aload_n (q := 0) dX6_next_117 rfl rfl ?_
      refine v_callV q1806 q1808 qs59 q113 q1809 (ci := 7) rfl (mH_obj hb) n_X6_keyAt ⟨Nat.le_of_ble_eq_true rfl, Nat.le_of_ble_eq_true rfl⟩ [] [va_rf (some (b 0))] (met_X6_keyAt hb hw) rfl (by simp only [List.map_cons, List.map_nil, List.sum_cons, List.sum_nil, v_rf1, v_cI, v_cJ]; decide) ⟨Nat.le_refl _, Nat.le_refl _⟩ dX6_next_118 rfl (v_ki (fun z_8 h1 hv => ?_))
      clear hw
      obtain ⟨e9, hw⟩ := hv
      refine v_heap e9 ?_
      clear e9
      obtain ⟨mi_9, emi_9⟩ : ∃ z9 : Nat → Int32, z9 = upd mi 13 z_8 := ⟨_, rfl⟩
      replace hw := hw mi_9 emi_9
      refine vm_put hb 13 (Nat.le_of_ble_eq_true rfl) q1627 rfl rfl rfl dX6_next_121 emi_9 rfl ?_
      refine v_goto (tgt := 306) dX6_next_124 (by decide) ?_
      exact v_vret dX6_next_306 rfl ⟨rfl, _, rfl, hw⟩
    · have hw := hw_7 c_5
      refine v_aload_n (q := 0) dX6_next_103 rfl rfl ?_
      refine v_dup dX6_next_104 (v_rf1 _) ?_
      refine vm_get hb 11 (Nat.le_of_ble_eq_true rfl) q1625 rfl dX6_next_105 rfl ?_
      refine v_iconst dX6_next_108 ic_1 ?_
      refine v_iadd dX6_next_109 ?_
      obtain ⟨mi_10, emi_10⟩ : ∃ z9 : Nat → Int32, z9 = upd mi 11 ((mi 11) + (nI 1)) := ⟨_, rfl⟩
      replace hw := hw mi_10 emi_10
      refine vm_put hb 11 (Nat.le_of_ble_eq_true rfl) q1625 rfl rfl rfl dX6_next_110 emi_10 rfl ?_
      refine v_goto (tgt := 89) dX6_next_113 (by decide) ?_
      refine v_sub [0] rfl ?_
      exact ih mi_10 hw
theorem b_X6_next_196 {post : (Nat → Int32) → Prop}   {ma : Nat → Nat → Int32} {ml : Nat → Nat → Int64} {k146 : (Nat → Int32) → Prop} (hb : mOK b)  (hk146 : ∀ (mi : Nat → Int32), k146 mi → VV l E X cX6_next RX6 "next" 1 r_X6_next none (vpv (fun (h' : AH) => ∃ (mi' : Nat → Int32), h' = (mH b mi' ma ml) ∧ post mi')) (mH b mi ma ml) 0 0 146 [(0, va_rf (some (b 0)))] []) (mi : Nat → Int32) (hw : w_X6_next_196 post k146 ma ml mi) : VV l E X cX6_next RX6 "next" 1 r_X6_next none (vpv (fun (h' : AH) => ∃ (mi' : Nat → Int32), h' = (mH b mi' ma ml) ∧ post mi')) (mH b mi ma ml) 0 0 196 [(0, va_rf (some (b 0)))] [] := by
  refine v_aload_n (q := 0) dX6_next_196 rfl rfl ?_
  refine v_dup dX6_next_197 (v_rf1 _) ?_
  refine vm_get hb 11 (Nat.le_of_ble_eq_true rfl) q1625 rfl dX6_next_198 rfl ?_
  refine v_iconst dX6_next_201 ic_1 ?_
  refine v_iadd dX6_next_202 ?_
  obtain ⟨mi_11, emi_11⟩ : ∃ z9 : Nat → Int32, z9 = upd mi 11 ((mi 11) + (nI 1)) := ⟨_, rfl⟩
  replace hw := hw mi_11 emi_11
  refine vm_put hb 11 (Nat.le_of_ble_eq_true rfl) q1625 rfl rfl rfl dX6_next_203 emi_11 rfl ?_
  refine v_goto (tgt := 146) dX6_next_206 (by decide) ?_
  refine v_sub [0] rfl ?_
  exact hk146 mi_11 hw
theorem b_X6_next_230 {post : (Nat → Int32) → Prop}   {ma : Nat → Nat → Int32} {ml : Nat → Nat → Int64}  (hb : mOK b)   (s0 : Int32) (mi : Nat → Int32) (hw : w_X6_next_230 post ma ml s0 mi) : VV l E X cX6_next RX6 "next" 1 r_X6_next none (vpv (fun (h' : AH) => ∃ (mi' : Nat → Int32), h' = (mH b mi' ma ml) ∧ post mi')) (mH b mi ma ml) 0 0 230 [(0, va_rf (some (b 0)))] [.int s0, va_rf (some (b 0))] := by
  obtain ⟨mi_12, emi_12⟩ : ∃ z9 : Nat → Int32, z9 = upd mi 13 s0 := ⟨_, rfl⟩
  replace hw := hw mi_12 emi_12
  refine vm_put hb 13 (Nat.le_of_ble_eq_true rfl) q1627 rfl rfl rfl dX6_next_230 emi_12 rfl ?_
  refine v_goto (tgt := 306) dX6_next_233 (by decide) ?_
  exact v_vret dX6_next_306 rfl ⟨rfl, _, rfl, hw⟩
theorem b_X6_next_146 {post : (Nat → Int32) → Prop}   {ma : Nat → Nat → Int32} {ml : Nat → Nat → Int64}  (hb : mOK b)   : ∀ (n0 : Nat) (mi : Nat → Int32), w_X6_next_146 post ma ml n0 mi → VV l E X cX6_next RX6 "next" 1 r_X6_next none (vpv (fun (h' : AH) => ∃ (mi' : Nat → Int32), h' = (mH b mi' ma ml) ∧ post mi')) (mH b mi ma ml) 0 0 146 [(0, va_rf (some (b 0)))] [] := by
  intro n0
  induction n0 with
  | zero =>
    intro mi hw
    exact hw.elim
  | succ n0 ih =>
    intro mi hw
    refine v_aload_n (q := 0) dX6_next_146 rfl rfl ?_
    refine v_aload_n (q := 0) dX6_next_147 rfl rfl ?_
    refine vm_get hb 11 (Nat.le_of_ble_eq_true rfl) q1625 rfl dX6_next_148 rfl ?_
    refine v_callV q1799 q1801 qs58 q113 q1802 (ci := 7) rfl (mH_obj hb) n_X6_see ⟨Nat.le_of_ble_eq_true rfl, Nat.le_of_ble_eq_true rfl⟩ [.int (mi 11)] [] (met_X6_see hb hw) rfl (Nat.zero_le _) ⟨Nat.le_refl _, Nat.le_refl _⟩ dX6_next_151 rfl (v_ki (fun z_13 h1 hv => ?_))
    clear hw
    obtain ⟨e9, hw⟩ := hv
    refine v_heap e9 ?_
    clear e9
    refine v_callS q1813 q1814 q113 q1815 n_X6_isDigit ⟨Nat.le_of_ble_eq_true rfl, Nat.le_of_ble_eq_true rfl⟩ [.int z_13] [] (met_X6_isDigit hw) rfl (Nat.zero_le _) ⟨Nat.le_refl _, Nat.le_refl _⟩ dX6_next_154 rfl (v_ki (fun z_14 h1 hv => ?_))
    clear hw
    obtain ⟨e9, hw⟩ := hv
    refine v_heap e9 ?_
    clear e9
    obtain ⟨hw_17, hw_18⟩ := hw
    refine v_if_eq (tgt := 209) dX6_next_157 (by decide) (fun c_15 => ?_) (fun c_16 => ?_)
    · have hw := hw_17 c_15
      refine v_aload_n (q := 0) dX6_next_209 rfl rfl ?_
      refine v_aload_n (q := 0) dX6_next_210 rfl rfl ?_
      refine vm_get hb 11 (Nat.le_of_ble_eq_true rfl) q1625 rfl dX6_next_211 rfl ?_
      refine v_aload_n (q := 0) dX6_next_214 rfl rfl ?_
      refine vm_get hb 10 (Nat.le_of_ble_eq_true rfl) q1624 rfl dX6_next_215 rfl ?_
      refine v_isub dX6_next_218 ?_
      refine v_iconst dX6_next_219 ic_3 ?_
      obtain ⟨hw_21, hw_22⟩ := hw
      refine v_icmp_le (tgt := 228) dX6_next_220 (by decide) (fun c_19 => ?_) (fun c_20 => ?_)
      · have hw := hw_21 c_19
        refine v_bipush dX6_next_228 bp_14 ?_
        refine v_sub [0] rfl ?_
        exact b_X6_next_230 hb (nI 14) mi hw
      · have hw := hw_22 c_20
        refine v_bipush dX6_next_223 bp_19 ?_
        refine v_goto (tgt := 230) dX6_next_225 (by decide) ?_
        refine v_sub [0] rfl ?_
        exact b_X6_next_230 hb (nI 19) mi hw
    · have hw := hw_18 c_16
      refine v_aload_n (q := 0) dX6_next_160 rfl rfl ?_
      refine vm_get hb 11 (Nat.le_of_ble_eq_true rfl) q1625 rfl dX6_next_161 rfl ?_
      refine v_aload_n (q := 0) dX6_next_164 rfl rfl ?_
      refine vm_get hb 10 (Nat.le_of_ble_eq_true rfl) q1624 rfl dX6_next_165 rfl ?_
      refine v_isub dX6_next_168 ?_
      refine v_iconst dX6_next_169 ic_3 ?_
      obtain ⟨hw_25, hw_26⟩ := hw
      refine v_icmp_ge (tgt := 196) dX6_next_170 (by decide) (fun c_23 => ?_) (fun c_24 => ?_)
      · have hw := hw_25 c_23
        refine v_sub [0] rfl ?_
        exact b_X6_next_196 hb (fun q0 z => ih q0 z) mi hw
      · have hw := hw_26 c_24
        refine v_aload_n (q := 0) dX6_next_173 rfl rfl ?_
        refine v_bipush dX6_next_174 bp_10 ?_
        refine v_aload_n (q := 0) dX6_next_176 rfl rfl ?_
        refine vm_get hb 14 (Nat.le_of_ble_eq_true rfl) q1628 rfl dX6_next_177 rfl ?_
        refine v_imul dX6_next_180 ?_
        refine v_aload_n (q := 0) dX6_next_181 rfl rfl ?_
        refine v_aload_n (q := 0) dX6_next_182 rfl rfl ?_
        refine vm_get hb 11 (Nat.le_of_ble_eq_true rfl) q1625 rfl dX6_next_183 rfl ?_
        refine v_callV q1799 q1801 qs58 q113 q1802 (ci := 7) rfl (mH_obj hb) n_X6_see ⟨Nat.le_of_ble_eq_true rfl, Nat.le_of_ble_eq_true rfl⟩ [.int (mi 11)] [.int ((nI 10) * (mi 14)), va_rf (some (b 0))] (met_X6_see hb hw) rfl (by simp only [List.map_cons, List.map_nil, List.sum_cons, List.sum_nil, v_rf1, v_cI, v_cJ]; decide) ⟨Nat.le_refl _, Nat.le_refl _⟩ dX6_next_186 rfl (v_ki (fun z_27 h1 hv => ?_))
        clear hw
        obtain ⟨e9, hw⟩ := hv
        refine v_heap e9 ?_
        clear e9
        refine v_iadd dX6_next_189 ?_
        refine v_bipush dX6_next_190 bp_48 ?_
        refine v_isub dX6_next_192 ?_
        obtain ⟨mi_28, emi_28⟩ : ∃ z9 : Nat → Int32, z9 = upd mi 14 ((((nI 10) * (mi 14)) + z_27) - (nI 48)) := ⟨_, rfl⟩
        replace hw := hw mi_28 emi_28
        refine vm_put hb 14 (Nat.le_of_ble_eq_true rfl) q1628 rfl rfl rfl dX6_next_193 emi_28 rfl ?_
        refine v_sub [0] rfl ?_
        exact b_X6_next_196 hb (fun q0 z => ih q0 z) mi_28 hw
theorem b_X6_next_303 {post : (Nat → Int32) → Prop}   {ma : Nat → Nat → Int32} {ml : Nat → Nat → Int64}  (hb : mOK b)   (s0 : Int32) (mi : Nat → Int32) (hw : w_X6_next_303 post ma ml s0 mi) : VV l E X cX6_next RX6 "next" 1 r_X6_next none (vpv (fun (h' : AH) => ∃ (mi' : Nat → Int32), h' = (mH b mi' ma ml) ∧ post mi')) (mH b mi ma ml) 0 0 303 [(0, va_rf (some (b 0)))] [.int s0, va_rf (some (b 0))] := by
  obtain ⟨mi_29, emi_29⟩ : ∃ z9 : Nat → Int32, z9 = upd mi 13 s0 := ⟨_, rfl⟩
  replace hw := hw mi_29 emi_29
  refine vm_put hb 13 (Nat.le_of_ble_eq_true rfl) q1627 rfl rfl rfl dX6_next_303 emi_29 rfl ?_
  exact v_vret dX6_next_306 rfl ⟨rfl, _, rfl, hw⟩
theorem b_X6_next_8 {post : (Nat → Int32) → Prop}   {ma : Nat → Nat → Int32} {ml : Nat → Nat → Int64}  (hb : mOK b)   : ∀ (n0 : Nat) (mi : Nat → Int32), w_X6_next_8 post ma ml n0 mi → VV l E X cX6_next RX6 "next" 1 r_X6_next none (vpv (fun (h' : AH) => ∃ (mi' : Nat → Int32), h' = (mH b mi' ma ml) ∧ post mi')) (mH b mi ma ml) 0 0 8 [(0, va_rf (some (b 0)))] [] := by
  intro n0
  induction n0 with
  | zero =>
    intro mi hw
    exact hw.elim
  | succ n0 ih =>
    intro mi hw
    refine v_aload_n (q := 0) dX6_next_8 rfl rfl ?_
    refine v_aload_n (q := 0) dX6_next_9 rfl rfl ?_
    refine vm_get hb 10 (Nat.le_of_ble_eq_true rfl) q1624 rfl dX6_next_10 rfl ?_
    refine v_callV q1799 q1801 qs58 q113 q1802 (ci := 7) rfl (mH_obj hb) n_X6_see ⟨Nat.le_of_ble_eq_true rfl, Nat.le_of_ble_eq_true rfl⟩ [.int (mi 10)] [] (met_X6_see hb hw) rfl (Nat.zero_le _) ⟨Nat.le_refl _, Nat.le_refl _⟩ dX6_next_13 rfl (v_ki (fun z_30 h1 hv => ?_))
    clear hw
    obtain ⟨e9, hw⟩ := hv
    refine v_heap e9 ?_
    clear e9
    refine v_bipush dX6_next_16 bp_10 ?_
    obtain ⟨hw_33, hw_34⟩ := hw
    refine v_icmp_eq (tgt := 34) dX6_next_18 (by decide) (fun c_31 => ?_) (fun c_32 => ?_)
    · have hw := hw_33 c_31
      refine v_sub [0] rfl ?_
      exact b_X6_next_34 hb (fun q0 z => ih q0 z) mi hw
    · have hw := hw_34 c_32
      refine v_aload_n (q := 0) dX6_next_21 rfl rfl ?_
      refine v_aload_n (q := 0) dX6_next_22 rfl rfl ?_
      refine vm_get hb 10 (Nat.le_of_ble_eq_true rfl) q1624 rfl dX6_next_23 rfl ?_
      refine v_callV q1799 q1801 qs58 q113 q1802 (ci := 7) rfl (mH_obj hb) n_X6_see ⟨Nat.le_of_ble_eq_true rfl, Nat.le_of_ble_eq_true rfl⟩ [.int (mi 10)] [] (met_X6_see hb hw) rfl (Nat.zero_le _) ⟨Nat.le_refl _, Nat.le_refl _⟩ dX6_next_26 rfl (v_ki (fun z_35 h1 hv => ?_))
      clear hw
      obtain ⟨e9, hw⟩ := hv
      refine v_heap e9 ?_
      clear e9
      refine v_bipush dX6_next_29 bp_32 ?_
      obtain ⟨hw_38, hw_39⟩ := hw
      refine v_icmp_ne (tgt := 47) dX6_next_31 (by decide) (fun c_36 => ?_) (fun c_37 => ?_)
      · have hw := hw_38 c_36
        refine v_aload_n (q := 0) dX6_next_47 rfl rfl ?_
        refine v_aload_n (q := 0) dX6_next_48 rfl rfl ?_
        refine vm_get hb 10 (Nat.le_of_ble_eq_true rfl) q1624 rfl dX6_next_49 rfl ?_
        obtain ⟨mi_40, emi_40⟩ : ∃ z9 : Nat → Int32, z9 = upd mi 11 (mi 10) := ⟨_, rfl⟩
        replace hw := hw mi_40 emi_40
        refine vm_put hb 11 (Nat.le_of_ble_eq_true rfl) q1625 rfl rfl rfl dX6_next_52 emi_40 rfl ?_
        refine v_aload_n (q := 0) dX6_next_55 rfl rfl ?_
        refine vm_get hb 10 (Nat.le_of_ble_eq_true rfl) q1624 rfl dX6_next_56 rfl ?_
        refine v_aload_n (q := 0) dX6_next_59 rfl rfl ?_
        refine vm_get hb 12 (Nat.le_of_ble_eq_true rfl) q1626 rfl dX6_next_60 rfl ?_
        obtain ⟨hw_43, hw_44⟩ := hw
        refine v_icmp_lt (tgt := 75) dX6_next_63 (by decide) (fun c_41 => ?_) (fun c_42 => ?_)
        · have hw := hw_43 c_41
          refine v_aload_n (q := 0) dX6_next_75 rfl rfl ?_
          refine v_aload_n (q := 0) dX6_next_76 rfl rfl ?_
          refine vm_get hb 10 (Nat.le_of_ble_eq_true rfl) q1624 rfl dX6_next_77 rfl ?_
          refine v_callV q1799 q1801 qs58 q113 q1802 (ci := 7) rfl (mH_obj hb) n_X6_see ⟨Nat.le_of_ble_eq_true rfl, Nat.le_of_ble_eq_true rfl⟩ [.int (mi_40 10)] [] (met_X6_see hb hw) rfl (Nat.zero_le _) ⟨Nat.le_refl _, Nat.le_refl _⟩ dX6_next_80 rfl (v_ki (fun z_45 h1 hv => ?_))
          clear hw
          obtain ⟨e9, hw⟩ := hv
          refine v_heap e9 ?_
          clear e9
          refine v_callS q1803 q1804 q113 q1805 n_X6_isSmall ⟨Nat.le_of_ble_eq_true rfl, Nat.le_of_ble_eq_true rfl⟩ [.int z_45] [] (met_X6_isSmall hw) rfl (Nat.zero_le _) ⟨Nat.le_refl _, Nat.le_refl _⟩ dX6_next_83 rfl (v_ki (fun z_46 h1 hv => ?_))
          clear hw
          obtain ⟨e9, hw⟩ := hv
          refine v_heap e9 ?_
          clear e9
          obtain ⟨hw_49, hw_50⟩ := hw
          refine v_if_eq (tgt := 127) dX6_next_86 (by decide) (fun c_47 => ?_) (fun c_48 => ?_)
          · have hw := hw_49 c_47
            refine v_aload_n (q := 0) dX6_next_127 rfl rfl ?_
            refine v_aload_n (q := 0) dX6_next_128 rfl rfl ?_
            refine vm_get hb 10 (Nat.le_of_ble_eq_true rfl) q1624 rfl dX6_next_129 rfl ?_
            refine v_callV q1799 q1801 qs58 q113 q1802 (ci := 7) rfl (mH_obj hb) n_X6_see ⟨Nat.le_of_ble_eq_true rfl, Nat.le_of_ble_eq_true rfl⟩ [.int (mi_40 10)] [] (met_X6_see hb hw) rfl (Nat.zero_le _) ⟨Nat.le_refl _, Nat.le_refl _⟩ dX6_next_132 rfl (v_ki (fun z_51 h1 hv => ?_))
            clear hw
            obtain ⟨e9, hw⟩ := hv
            refine v_heap e9 ?_
            clear e9
            refine v_callS q1813 q1814 q113 q1815 n_X6_isDigit ⟨Nat.le_of_ble_eq_true rfl, Nat.le_of_ble_eq_true rfl⟩ [.int z_51] [] (met_X6_isDigit hw) rfl (Nat.zero_le _) ⟨Nat.le_refl _, Nat.le_refl _⟩ dX6_next_135 rfl (v_ki (fun z_52 h1 hv => ?_))
            clear hw
            obtain ⟨e9, hw⟩ := hv
            refine v_heap e9 ?_
            clear e9
            obtain ⟨hw_55, hw_56⟩ := hw
            refine v_if_eq (tgt := 236) dX6_next_138 (by decide) (fun c_53 => ?_) (fun c_54 => ?_)
            · have hw := hw_55 c_53
              refine v_aload_n (q := 0) dX6_next_236 rfl rfl ?_
              refine v_dup dX6_next_237 (v_rf1 _) ?_
              refine vm_get hb 11 (Nat.le_of_ble_eq_true rfl) q1625 rfl dX6_next_238 rfl ?_
              refine v_iconst dX6_next_241 ic_1 ?_
              refine v_iadd dX6_next_242 ?_
              obtain ⟨mi_57, emi_57⟩ : ∃ z9 : Nat → Int32, z9 = upd mi_40 11 ((mi_40 11) + (nI 1)) := ⟨_, rfl⟩
              replace hw := hw mi_57 emi_57
              refine vm_put hb 11 (Nat.le_of_ble_eq_true rfl) q1625 rfl rfl rfl dX6_next_243 emi_57 rfl ?_
              refine v_aload_n (q := 0) dX6_next_246 rfl rfl ?_
              refine v_aload_n (q := 0) dX6_next_247 rfl rfl ?_
              refine v_aload_n (q := 0) dX6_next_248 rfl rfl ?_
              refine vm_get hb 10 (Nat.le_of_ble_eq_true rfl) q1624 rfl dX6_next_249 rfl ?_
              refine v_callV q1799 q1801 qs58 q113 q1802 (ci := 7) rfl (mH_obj hb) n_X6_see ⟨Nat.le_of_ble_eq_true rfl, Nat.le_of_ble_eq_true rfl⟩ [.int (mi_57 10)] [va_rf (some (b 0))] (met_X6_see hb hw) rfl (by simp only [List.map_cons, List.map_nil, List.sum_cons, List.sum_nil, v_rf1, v_cI, v_cJ]; decide) ⟨Nat.le_refl _, Nat.le_refl _⟩ dX6_next_252 rfl (v_ki (fun z_58 h1 hv => ?_))
              clear hw
              obtain ⟨e9, hw⟩ := hv
              refine v_heap e9 ?_
              clear e9
              refine v_bipush dX6_next_255 bp_59 ?_
              obtain ⟨hw_61, hw_62⟩ := hw
              refine v_icmp_ne (tgt := 265) dX6_next_257 (by decide) (fun c_59 => ?_) (fun c_60 => ?_)
              · have hw := hw_61 c_59
                refine v_aload_n (q := 0) dX6_next_265 rfl rfl ?_
                refine v_aload_n (q := 0) dX6_next_266 rfl rfl ?_
                refine vm_get hb 10 (Nat.le_of_ble_eq_true rfl) q1624 rfl dX6_next_267 rfl ?_
                refine v_callV q1799 q1801 qs58 q113 q1802 (ci := 7) rfl (mH_obj hb) n_X6_see ⟨Nat.le_of_ble_eq_true rfl, Nat.le_of_ble_eq_true rfl⟩ [.int (mi_57 10)] [va_rf (some (b 0))] (met_X6_see hb hw) rfl (by simp only [List.map_cons, List.map_nil, List.sum_cons, List.sum_nil, v_rf1, v_cI, v_cJ]; decide) ⟨Nat.le_refl _, Nat.le_refl _⟩ dX6_next_270 rfl (v_ki (fun z_63 h1 hv => ?_))
                clear hw
                obtain ⟨e9, hw⟩ := hv
                refine v_heap e9 ?_
                clear e9
                refine v_bipush dX6_next_273 bp_40 ?_
                obtain ⟨hw_66, hw_67⟩ := hw
                refine v_icmp_ne (tgt := 283) dX6_next_275 (by decide) (fun c_64 => ?_) (fun c_65 => ?_)
                · have hw := hw_66 c_64
                  refine v_aload_n (q := 0) dX6_next_283 rfl rfl ?_
                  refine v_aload_n (q := 0) dX6_next_284 rfl rfl ?_
                  refine vm_get hb 10 (Nat.le_of_ble_eq_true rfl) q1624 rfl dX6_next_285 rfl ?_
                  refine v_callV q1799 q1801 qs58 q113 q1802 (ci := 7) rfl (mH_obj hb) n_X6_see ⟨Nat.le_of_ble_eq_true rfl, Nat.le_of_ble_eq_true rfl⟩ [.int (mi_57 10)] [va_rf (some (b 0))] (met_X6_see hb hw) rfl (by simp only [List.map_cons, List.map_nil, List.sum_cons, List.sum_nil, v_rf1, v_cI, v_cJ]; decide) ⟨Nat.le_refl _, Nat.le_refl _⟩ dX6_next_288 rfl (v_ki (fun z_68 h1 hv => ?_))
                  clear hw
                  obtain ⟨e9, hw⟩ := hv
                  refine v_heap e9 ?_
                  clear e9
                  refine v_bipush dX6_next_291 bp_41 ?_
                  obtain ⟨hw_71, hw_72⟩ := hw
                  refine v_icmp_ne (tgt := 301) dX6_next_293 (by decide) (fun c_69 => ?_) (fun c_70 => ?_)
                  · have hw := hw_71 c_69
                    refine v_bipush dX6_next_301 bp_19 ?_
                    refine v_sub [0] rfl ?_
                    exact b_X6_next_303 hb (nI 19) mi_57 hw
                  · have hw := hw_72 c_70
                    refine v_bipush dX6_next_296 bp_17 ?_
                    refine v_goto (tgt := 303) dX6_next_298 (by decide) ?_
                    refine v_sub [0] rfl ?_
                    exact b_X6_next_303 hb (nI 17) mi_57 hw
                · have hw := hw_67 c_65
                  refine v_bipush dX6_next_278 bp_16 ?_
                  refine v_goto (tgt := 303) dX6_next_280 (by decide) ?_
                  refine v_sub [0] rfl ?_
                  exact b_X6_next_303 hb (nI 16) mi_57 hw
              · have hw := hw_62 c_60
                refine v_bipush dX6_next_260 bp_15 ?_
                refine v_goto (tgt := 303) dX6_next_262 (by decide) ?_
                refine v_sub [0] rfl ?_
                exact b_X6_next_303 hb (nI 15) mi_57 hw
            · have hw := hw_56 c_54
              refine v_aload_n (q := 0) dX6_next_141 rfl rfl ?_
              refine v_iconst dX6_next_142 ic_0 ?_
              obtain ⟨mi_73, emi_73⟩ : ∃ z9 : Nat → Int32, z9 = upd mi_40 14 (nI 0) := ⟨_, rfl⟩
              replace hw := hw mi_73 emi_73
              refine vm_put hb 14 (Nat.le_of_ble_eq_true rfl) q1628 rfl rfl rfl dX6_next_143 emi_73 rfl ?_
              obtain ⟨n_74, hw⟩ := hw
              refine v_sub [0] rfl ?_
              exact b_X6_next_146 hb n_74 mi_73 hw
          · have hw := hw_50 c_48
            obtain ⟨n_75, hw⟩ := hw
            refine v_sub [0] rfl ?_
            exact b_X6_next_89 hb n_75 mi_40 hw
        · have hw := hw_44 c_42
          refine v_aload_n (q := 0) dX6_next_66 rfl rfl ?_
          refine v_bipush dX6_next_67 bp_18 ?_
          obtain ⟨mi_76, emi_76⟩ : ∃ z9 : Nat → Int32, z9 = upd mi_40 13 (nI 18) := ⟨_, rfl⟩
          replace hw := hw mi_76 emi_76
          refine vm_put hb 13 (Nat.le_of_ble_eq_true rfl) q1627 rfl rfl rfl dX6_next_69 emi_76 rfl ?_
          refine v_goto (tgt := 306) dX6_next_72 (by decide) ?_
          exact v_vret dX6_next_306 rfl ⟨rfl, _, rfl, hw⟩
      · have hw := hw_39 c_37
        refine v_sub [0] rfl ?_
        exact b_X6_next_34 hb (fun q0 z => ih q0 z) mi hw
theorem e_X6_next {post : (Nat → Int32) → Prop}   {mi : Nat → Int32} {ma : Nat → Nat → Int32} {ml : Nat → Nat → Int64} (hb : mOK b)  (hw : w_X6_next post  mi ma ml) : VV l E X cX6_next RX6 "next" 1 r_X6_next none (vpv (fun (h' : AH) => ∃ (mi' : Nat → Int32), h' = (mH b mi' ma ml) ∧ post mi')) (mH b mi ma ml) 0 0 0 [(0, va_rf (some (b 0)))] [] := by
  refine v_aload_n (q := 0) dX6_next_0 rfl rfl ?_
  refine v_aload_n (q := 0) dX6_next_1 rfl rfl ?_
  refine vm_get hb 11 (Nat.le_of_ble_eq_true rfl) q1625 rfl dX6_next_2 rfl ?_
  obtain ⟨mi_77, emi_77⟩ : ∃ z9 : Nat → Int32, z9 = upd mi 10 (mi 11) := ⟨_, rfl⟩
  replace hw := hw mi_77 emi_77
  refine vm_put hb 10 (Nat.le_of_ble_eq_true rfl) q1624 rfl rfl rfl dX6_next_5 emi_77 rfl ?_
  obtain ⟨n_78, hw⟩ := hw
  refine v_sub [0] rfl ?_
  exact b_X6_next_8 hb n_78 mi_77 hw
theorem met_X6_next {post : (Nat → Int32) → Prop}   {mi : Nat → Int32} {ma : Nat → Nat → Int32} {ml : Nat → Nat → Int64} (hb : mOK b)  (hw : w_X6_next post  mi ma ml) : Mt l E yX6_next (ws_ yX6_next cX6_next 1 none) r_X6_next [va_rf (some (b 0))] (mH b mi ma ml) (vpv (fun (h' : AH) => ∃ (mi' : Nat → Int32), h' = (mH b mi' ma ml) ∧ post mi')) := v_entry (by decide +kernel) (Nat.le_of_ble_eq_true rfl) rfl (fun _ => e_X6_next hb hw)
/-! X6_is -/
abbrev r_X6_is : Room := { frames := 0, cells := 0, slots := 0, locals := 0 }
theorem n_X6_is : vdn yX6_is 1 := ⟨by decide +kernel, by decide +kernel, by decide +kernel⟩
def w_X6_is (post : (Int32) → Prop) (x1 : Int32) (mi : Nat → Int32) (ma : Nat → Nat → Int32) (ml : Nat → Nat → Int64) : Prop :=
 ((¬ (mi 15) = 0 → (post (nI 0))) ∧ ((mi 15) = 0 → ((¬ (mi 13) = x1 → (post (nI 0))) ∧ ((mi 13) = x1 → (post (nI 1))))))
theorem e_X6_is {post : (Int32) → Prop}   {x1 : Int32} {mi : Nat → Int32} {ma : Nat → Nat → Int32} {ml : Nat → Nat → Int64} (hb : mOK b)  (hw : w_X6_is post  x1 mi ma ml) : VV l E X cX6_is RX6 "is" 2 r_X6_is (some .boolean) (vpi (fun (r : Int32) (h' : AH) => h' = (mH b mi ma ml) ∧ post r)) (mH b mi ma ml) 0 0 0 [(0, va_rf (some (b 0))), (1, .int x1)] [] := by
  refine v_aload_n (q := 0) dX6_is_0 rfl rfl ?_
  refine vm_get hb 15 (Nat.le_of_ble_eq_true rfl) q1629 rfl dX6_is_1 rfl ?_
  obtain ⟨hw_3, hw_4⟩ := hw
  refine v_if_ne (tgt := 19) dX6_is_4 (by decide) (fun c_1 => ?_) (fun c_2 => ?_)
  · have hw := hw_3 c_1
    refine v_iconst dX6_is_19 ic_0 ?_
    exact v_zret dX6_is_20 rfl rfl ⟨_, rfl, rfl, hw⟩
  · have hw := hw_4 c_2
    refine v_aload_n (q := 0) dX6_is_7 rfl rfl ?_
    refine vm_get hb 13 (Nat.le_of_ble_eq_true rfl) q1627 rfl dX6_is_8 rfl ?_
    refine v_iload_n (q := 1) dX6_is_11 rfl rfl ?_
    obtain ⟨hw_7, hw_8⟩ := hw
    refine v_icmp_ne (tgt := 19) dX6_is_12 (by decide) (fun c_5 => ?_) (fun c_6 => ?_)
    · have hw := hw_7 c_5
      refine v_iconst dX6_is_19 ic_0 ?_
      exact v_zret dX6_is_20 rfl rfl ⟨_, rfl, rfl, hw⟩
    · have hw := hw_8 c_6
      refine v_iconst dX6_is_15 ic_1 ?_
      refine v_goto (tgt := 20) dX6_is_16 (by decide) ?_
      exact v_zret dX6_is_20 rfl rfl ⟨_, rfl, rfl, hw⟩
theorem met_X6_is {post : (Int32) → Prop}   {x1 : Int32} {mi : Nat → Int32} {ma : Nat → Nat → Int32} {ml : Nat → Nat → Int64} (hb : mOK b)  (hw : w_X6_is post  x1 mi ma ml) : Mt l E yX6_is (ws_ yX6_is cX6_is 2 (some .boolean)) r_X6_is [va_rf (some (b 0)), .int x1] (mH b mi ma ml) (vpi (fun (r : Int32) (h' : AH) => h' = (mH b mi ma ml) ∧ post r)) := v_entry (by decide +kernel) (Nat.le_of_ble_eq_true rfl) rfl (fun _ => e_X6_is hb hw)
/-! X6_fails -/
abbrev r_X6_fails : Room := { frames := 0, cells := 0, slots := 0, locals := 0 }
theorem n_X6_fails : vdn yX6_fails 1 := ⟨by decide +kernel, by decide +kernel, by decide +kernel⟩
def w_X6_fails_23 (post : (Nat → Int32) → Prop) (x1 : Int32) (ma : Nat → Nat → Int32) (ml : Nat → Nat → Int64) (s0 : Int32) (mi : Nat → Int32) : Prop :=
 (∀ mi_1 : Nat → Int32, mi_1 = upd mi 15 s0 → (∀ mi_2 : Nat → Int32, mi_2 = upd mi_1 16 (mi_1 10) → (post mi_2)))
def w_X6_fails (post : (Nat → Int32) → Prop) (x1 : Int32) (mi : Nat → Int32) (ma : Nat → Nat → Int32) (ml : Nat → Nat → Int64) : Prop :=
 (((mi 15) = 0 → ((¬ (mi 13) = (nI 19) → (w_X6_fails_23 post x1 ma ml x1 mi)) ∧ ((mi 13) = (nI 19) → (w_X6_fails_23 post x1 ma ml (nI 1) mi)))) ∧ (¬ (mi 15) = 0 → (post mi)))
theorem b_X6_fails_23 {post : (Nat → Int32) → Prop}   {x1 : Int32} {ma : Nat → Nat → Int32} {ml : Nat → Nat → Int64}  (hb : mOK b)   (s0 : Int32) (mi : Nat → Int32) (hw : w_X6_fails_23 post x1 ma ml s0 mi) : VV l E X cX6_fails RX6 "fails" 2 r_X6_fails none (vpv (fun (h' : AH) => ∃ (mi' : Nat → Int32), h' = (mH b mi' ma ml) ∧ post mi')) (mH b mi ma ml) 0 0 23 [(0, va_rf (some (b 0))), (1, .int x1)] [.int s0, va_rf (some (b 0))] := by
  obtain ⟨mi_1, emi_1⟩ : ∃ z9 : Nat → Int32, z9 = upd mi 15 s0 := ⟨_, rfl⟩
  replace hw := hw mi_1 emi_1
  refine vm_put hb 15 (Nat.le_of_ble_eq_true rfl) q1629 rfl rfl rfl dX6_fails_23 emi_1 rfl ?_
  refine v_aload_n (q := 0) dX6_fails_26 rfl rfl ?_
  refine v_aload_n (q := 0) dX6_fails_27 rfl rfl ?_
  refine vm_get hb 10 (Nat.le_of_ble_eq_true rfl) q1624 rfl dX6_fails_28 rfl ?_
  obtain ⟨mi_2, emi_2⟩ : ∃ z9 : Nat → Int32, z9 = upd mi_1 16 (mi_1 10) := ⟨_, rfl⟩
  replace hw := hw mi_2 emi_2
  refine vm_put hb 16 (Nat.le_of_ble_eq_true rfl) q1630 rfl rfl rfl dX6_fails_31 emi_2 rfl ?_
  exact v_vret dX6_fails_34 rfl ⟨rfl, _, rfl, hw⟩
theorem e_X6_fails {post : (Nat → Int32) → Prop}   {x1 : Int32} {mi : Nat → Int32} {ma : Nat → Nat → Int32} {ml : Nat → Nat → Int64} (hb : mOK b)  (hw : w_X6_fails post  x1 mi ma ml) : VV l E X cX6_fails RX6 "fails" 2 r_X6_fails none (vpv (fun (h' : AH) => ∃ (mi' : Nat → Int32), h' = (mH b mi' ma ml) ∧ post mi')) (mH b mi ma ml) 0 0 0 [(0, va_rf (some (b 0))), (1, .int x1)] [] := by
  refine v_aload_n (q := 0) dX6_fails_0 rfl rfl ?_
  refine vm_get hb 15 (Nat.le_of_ble_eq_true rfl) q1629 rfl dX6_fails_1 rfl ?_
  obtain ⟨hw_5, hw_6⟩ := hw
  refine v_if_eq (tgt := 8) dX6_fails_4 (by decide) (fun c_3 => ?_) (fun c_4 => ?_)
  · have hw := hw_5 c_3
    refine v_aload_n (q := 0) dX6_fails_8 rfl rfl ?_
    refine v_aload_n (q := 0) dX6_fails_9 rfl rfl ?_
    refine vm_get hb 13 (Nat.le_of_ble_eq_true rfl) q1627 rfl dX6_fails_10 rfl ?_
    refine v_bipush dX6_fails_13 bp_19 ?_
    obtain ⟨hw_9, hw_10⟩ := hw
    refine v_icmp_ne (tgt := 22) dX6_fails_15 (by decide) (fun c_7 => ?_) (fun c_8 => ?_)
    · have hw := hw_9 c_7
      refine v_iload_n (q := 1) dX6_fails_22 rfl rfl ?_
      refine v_sub [0, 1] rfl ?_
      exact b_X6_fails_23 hb x1 mi hw
    · have hw := hw_10 c_8
      refine v_iconst dX6_fails_18 ic_1 ?_
      refine v_goto (tgt := 23) dX6_fails_19 (by decide) ?_
      refine v_sub [0, 1] rfl ?_
      exact b_X6_fails_23 hb (nI 1) mi hw
  · have hw := hw_6 c_4
    exact v_vret dX6_fails_7 rfl ⟨rfl, _, rfl, hw⟩
theorem met_X6_fails {post : (Nat → Int32) → Prop}   {x1 : Int32} {mi : Nat → Int32} {ma : Nat → Nat → Int32} {ml : Nat → Nat → Int64} (hb : mOK b)  (hw : w_X6_fails post  x1 mi ma ml) : Mt l E yX6_fails (ws_ yX6_fails cX6_fails 2 none) r_X6_fails [va_rf (some (b 0)), .int x1] (mH b mi ma ml) (vpv (fun (h' : AH) => ∃ (mi' : Nat → Int32), h' = (mH b mi' ma ml) ∧ post mi')) := v_entry (by decide +kernel) (Nat.le_of_ble_eq_true rfl) rfl (fun _ => e_X6_fails hb hw)
/-! X6_reads -/
abbrev r_X6_reads : Room := { frames := 9, cells := 0, slots := 0, locals := 464 }
theorem n_X6_reads : vdn yX6_reads 3 := ⟨by decide +kernel, by decide +kernel, by decide +kernel⟩
def w_X6_reads_49 (post : (Int32) → (Nat → Int32) → Prop) (x1 : Int32) (x2 : Int32) (x3 : Int32) (ma : Nat → Nat → Int32) (ml : Nat → Nat → Int64) (mi : Nat → Int32) : Prop :=
 ((¬ (mi 15) = 0 → (post (mi 14) mi)) ∧ ((mi 15) = 0 → (w_X6_next (fun (mi_5 : Nat → Int32) => (post (mi 14) mi_5)) mi ma ml)))
def w_X6_reads (post : (Int32) → (Nat → Int32) → Prop) (x1 : Int32) (x2 : Int32) (x3 : Int32) (mi : Nat → Int32) (ma : Nat → Nat → Int32) (ml : Nat → Nat → Int64) : Prop :=
 (w_X6_is (fun (z_6 : Int32) => ((¬ z_6 = 0 → (w_X6_within (fun (z_11 : Int32) => ((¬ z_11 = 0 → ((x3 = 0 → (w_X6_reads_49 post x1 x2 x3 ma ml mi)) ∧ (¬ x3 = 0 → (w_X6_fails (fun (mi_20 : Nat → Int32) => (w_X6_reads_49 post x1 x2 x3 ma ml mi_20)) (nI 4) mi ma ml)))) ∧ (z_11 = 0 → (w_X6_fails (fun (mi_21 : Nat → Int32) => (w_X6_reads_49 post x1 x2 x3 ma ml mi_21)) (nI 3) mi ma ml)))) (((mi 14)).toInt64) ((x1).toInt64) ((x2).toInt64))) ∧ (z_6 = 0 → (w_X6_fails (fun (mi_22 : Nat → Int32) => (w_X6_reads_49 post x1 x2 x3 ma ml mi_22)) (nI 2) mi ma ml)))) (nI 14) mi ma ml)
theorem b_X6_reads_49 {post : (Int32) → (Nat → Int32) → Prop}   {x1 : Int32} {x2 : Int32} {x3 : Int32} {ma : Nat → Nat → Int32} {ml : Nat → Nat → Int64}  (hb : mOK b)   (mi : Nat → Int32) (hw : w_X6_reads_49 post x1 x2 x3 ma ml mi) : VV l E X cX6_reads RX6 "reads" 5 r_X6_reads (some .int) (vpi (fun (r : Int32) (h' : AH) => ∃ (mi' : Nat → Int32), h' = (mH b mi' ma ml) ∧ post r mi')) (mH b mi ma ml) 0 0 49 [(0, va_rf (some (b 0))), (1, .int x1), (2, .int x2), (3, .int x3)] [] := by
  refine v_aload_n (q := 0) dX6_reads_49 rfl rfl ?_
  refine vm_get hb 14 (Nat.le_of_ble_eq_true rfl) q1628 rfl dX6_reads_50 rfl ?_
  refine v_istore (lv1 := [(4, .int (mi 14)), (0, va_rf (some (b 0))), (1, .int x1), (2, .int x2), (3, .int x3)]) dX6_reads_53 (Nat.le_of_ble_eq_true rfl) rfl ?_
  refine v_aload_n (q := 1) dX6_reads_55 rfl rfl ?_
  refine vm_get hb 15 (Nat.le_of_ble_eq_true rfl) q1629 rfl dX6_reads_56 rfl ?_
  obtain ⟨hw_3, hw_4⟩ := hw
  refine v_if_ne (tgt := 66) dX6_reads_59 (by decide) (fun c_1 => ?_) (fun c_2 => ?_)
  · have hw := hw_3 c_1
    refine v_iload (q := 0) dX6_reads_66 rfl ?_
    exact v_iret dX6_reads_68 rfl ⟨_, rfl, _, rfl, hw⟩
  · have hw := hw_4 c_2
    refine v_aload_n (q := 1) dX6_reads_62 rfl rfl ?_
    refine v_callV q1795 q1797 qs57 q113 q1798 (ci := 7) rfl (mH_obj hb) n_X6_next ⟨Nat.le_of_ble_eq_true rfl, Nat.le_of_ble_eq_true rfl⟩ [] [] (met_X6_next hb hw) rfl (Nat.zero_le _) ⟨Nat.le_refl _, Nat.le_refl _⟩ dX6_reads_63 rfl (v_kv (fun h1 hv => ?_))
    clear hw
    obtain ⟨mi_5, rfl, hw⟩ := hv
    refine v_iload (q := 0) dX6_reads_66 rfl ?_
    exact v_iret dX6_reads_68 rfl ⟨_, rfl, _, rfl, hw⟩
theorem e_X6_reads {post : (Int32) → (Nat → Int32) → Prop}   {x1 : Int32} {x2 : Int32} {x3 : Int32} {mi : Nat → Int32} {ma : Nat → Nat → Int32} {ml : Nat → Nat → Int64} (hb : mOK b)  (hw : w_X6_reads post  x1 x2 x3 mi ma ml) : VV l E X cX6_reads RX6 "reads" 5 r_X6_reads (some .int) (vpi (fun (r : Int32) (h' : AH) => ∃ (mi' : Nat → Int32), h' = (mH b mi' ma ml) ∧ post r mi')) (mH b mi ma ml) 0 0 0 [(0, va_rf (some (b 0))), (1, .int x1), (2, .int x2), (3, .int x3)] [] := by
  refine v_aload_n (q := 0) dX6_reads_0 rfl rfl ?_
  refine v_bipush dX6_reads_1 bp_14 ?_
  refine v_callV q1828 q1830 qs63 q113 q1831 (ci := 7) rfl (mH_obj hb) n_X6_is ⟨Nat.le_of_ble_eq_true rfl, Nat.le_of_ble_eq_true rfl⟩ [.int (nI 14)] [] (met_X6_is hb hw) rfl (Nat.zero_le _) ⟨Nat.le_refl _, Nat.le_refl _⟩ dX6_reads_3 rfl (v_ki (fun z_6 h1 hv => ?_))
  clear hw
  obtain ⟨e9, hw⟩ := hv
  refine v_heap e9 ?_
  clear e9
  obtain ⟨hw_9, hw_10⟩ := hw
  refine v_if_ne (tgt := 17) dX6_reads_6 (by decide) (fun c_7 => ?_) (fun c_8 => ?_)
  · have hw := hw_9 c_7
    refine v_aload_n (q := 0) dX6_reads_17 rfl rfl ?_
    refine vm_get hb 14 (Nat.le_of_ble_eq_true rfl) q1628 rfl dX6_reads_18 rfl ?_
    refine v_i2l dX6_reads_21 ?_
    refine v_iload_n (q := 1) dX6_reads_22 rfl rfl ?_
    refine v_i2l dX6_reads_23 ?_
    refine v_iload_n (q := 2) dX6_reads_24 rfl rfl ?_
    refine v_i2l dX6_reads_25 ?_
    refine v_callS q1734 q1735 q113 q1736 n_X6_within ⟨Nat.le_of_ble_eq_true rfl, Nat.le_of_ble_eq_true rfl⟩ [.long (((mi 14)).toInt64), .long ((x1).toInt64), .long ((x2).toInt64)] [] (met_X6_within hw) rfl (Nat.zero_le _) ⟨Nat.le_refl _, Nat.le_refl _⟩ dX6_reads_26 rfl (v_ki (fun z_11 h1 hv => ?_))
    clear hw
    obtain ⟨e9, hw⟩ := hv
    refine v_heap e9 ?_
    clear e9
    obtain ⟨hw_14, hw_15⟩ := hw
    refine v_if_ne (tgt := 40) dX6_reads_29 (by decide) (fun c_12 => ?_) (fun c_13 => ?_)
    · have hw := hw_14 c_12
      refine v_iload_n (q := 3) dX6_reads_40 rfl rfl ?_
      obtain ⟨hw_18, hw_19⟩ := hw
      refine v_if_eq (tgt := 49) dX6_reads_41 (by decide) (fun c_16 => ?_) (fun c_17 => ?_)
      · have hw := hw_18 c_16
        refine v_sub [0, 1, 2, 3] rfl ?_
        exact b_X6_reads_49 hb mi hw
      · have hw := hw_19 c_17
        refine v_aload_n (q := 0) dX6_reads_44 rfl rfl ?_
        refine v_iconst dX6_reads_45 ic_4 ?_
        refine v_callV q1832 q1834 qs64 q113 q1835 (ci := 7) rfl (mH_obj hb) n_X6_fails ⟨Nat.le_of_ble_eq_true rfl, Nat.le_of_ble_eq_true rfl⟩ [.int (nI 4)] [] (met_X6_fails hb hw) rfl (Nat.zero_le _) ⟨Nat.le_refl _, Nat.le_refl _⟩ dX6_reads_46 rfl (v_kv (fun h1 hv => ?_))
        clear hw
        obtain ⟨mi_20, rfl, hw⟩ := hv
        refine v_sub [0, 1, 2, 3] rfl ?_
        exact b_X6_reads_49 hb mi_20 hw
    · have hw := hw_15 c_13
      refine v_aload_n (q := 0) dX6_reads_32 rfl rfl ?_
      refine v_iconst dX6_reads_33 ic_3 ?_
      refine v_callV q1832 q1834 qs64 q113 q1835 (ci := 7) rfl (mH_obj hb) n_X6_fails ⟨Nat.le_of_ble_eq_true rfl, Nat.le_of_ble_eq_true rfl⟩ [.int (nI 3)] [] (met_X6_fails hb hw) rfl (Nat.zero_le _) ⟨Nat.le_refl _, Nat.le_refl _⟩ dX6_reads_34 rfl (v_kv (fun h1 hv => ?_))
      clear hw
      obtain ⟨mi_21, rfl, hw⟩ := hv
      refine v_goto (tgt := 49) dX6_reads_37 (by decide) ?_
      refine v_sub [0, 1, 2, 3] rfl ?_
      exact b_X6_reads_49 hb mi_21 hw
  · have hw := hw_10 c_8
    refine v_aload_n (q := 0) dX6_reads_9 rfl rfl ?_
    refine v_iconst dX6_reads_10 ic_2 ?_
    refine v_callV q1832 q1834 qs64 q113 q1835 (ci := 7) rfl (mH_obj hb) n_X6_fails ⟨Nat.le_of_ble_eq_true rfl, Nat.le_of_ble_eq_true rfl⟩ [.int (nI 2)] [] (met_X6_fails hb hw) rfl (Nat.zero_le _) ⟨Nat.le_refl _, Nat.le_refl _⟩ dX6_reads_11 rfl (v_kv (fun h1 hv => ?_))
    clear hw
    obtain ⟨mi_22, rfl, hw⟩ := hv
    refine v_goto (tgt := 49) dX6_reads_14 (by decide) ?_
    refine v_sub [0, 1, 2, 3] rfl ?_
    exact b_X6_reads_49 hb mi_22 hw
theorem met_X6_reads {post : (Int32) → (Nat → Int32) → Prop}   {x1 : Int32} {x2 : Int32} {x3 : Int32} {mi : Nat → Int32} {ma : Nat → Nat → Int32} {ml : Nat → Nat → Int64} (hb : mOK b)  (hw : w_X6_reads post  x1 x2 x3 mi ma ml) : Mt l E yX6_reads (ws_ yX6_reads cX6_reads 5 (some .int)) r_X6_reads [va_rf (some (b 0)), .int x1, .int x2, .int x3] (mH b mi ma ml) (vpi (fun (r : Int32) (h' : AH) => ∃ (mi' : Nat → Int32), h' = (mH b mi' ma ml) ∧ post r mi')) := v_entry (by decide +kernel) (Nat.le_of_ble_eq_true rfl) rfl (fun _ => e_X6_reads hb hw)
/-! X6_side -/
abbrev r_X6_side : Room := { frames := 10, cells := 0, slots := 0, locals := 488 }
theorem n_X6_side : vdn yX6_side 2 := ⟨by decide +kernel, by decide +kernel, by decide +kernel⟩
def w_X6_side_55 (post : (Int32) → (Nat → Int32) → (Nat → Nat → Int32) → Prop) (k5 : (Int32) → (Int32) → (Nat → Int32) → (Nat → Nat → Int32) → Prop) (x1 : Int32) (x2 : Int32) (ml : Nat → Nat → Int64) (x3 : Int32) (mi : Nat → Int32) (ma : Nat → Nat → Int32) : Prop :=
 (∀ z_1 : Int32, z_1 = x3 + (nI 1) → (w_X6_is (fun (z_2 : Int32) => (k5 z_1 z_2 mi ma)) (nI 14) mi ma ml))
def w_X6_side_33 (post : (Int32) → (Nat → Int32) → (Nat → Nat → Int32) → Prop) (k5 : (Int32) → (Int32) → (Nat → Int32) → (Nat → Nat → Int32) → Prop) (x1 : Int32) (x2 : Int32) (ml : Nat → Nat → Int64) (x3 : Int32) (s0 : Int32) (s1 : Int32) (s2 : Int32) (mi : Nat → Int32) (ma : Nat → Nat → Int32) : Prop :=
 (w_X6_reads (fun (z_3 : Int32) (mi_4 : Nat → Int32) => ((¬ (mi_4 15) = 0 → (w_X6_side_55 post k5 x1 x2 ml x3 mi_4 ma)) ∧ ((mi_4 15) = 0 → (vp_in (x1 + x3) 2580 ∧ ∀ ma_10 : Nat → Nat → Int32, ma_10 = mup ma 6 ((x1 + x3)).toNatClampNeg z_3 → (w_X6_side_55 post k5 x1 x2 ml x3 mi_4 ma_10))))) s2 s1 s0 mi ma ml)
def w_X6_side_5 (post : (Int32) → (Nat → Int32) → (Nat → Nat → Int32) → Prop) (x1 : Int32) (x2 : Int32) (ml : Nat → Nat → Int64) : Nat → (Int32) → (Int32) → (Nat → Int32) → (Nat → Nat → Int32) → Prop
 | 0, _, _, _, _ => False
 | n0 + 1, x3, x4, mi, ma =>
 ((x4 = 0 → (post x3 mi ma)) ∧ (¬ x4 = 0 → ((¬ x3 = 0 → ((¬ x3 = (nI 4) → (w_X6_side_33 post (fun (q0 : Int32) (q1 : Int32) (q2 : Nat → Int32) (q3 : Nat → Nat → Int32) => w_X6_side_5 post x1 x2 ml n0 q0 q1 q2 q3) x1 x2 ml x3 (nI 0) (nI 255) (nI 1) mi ma)) ∧ (x3 = (nI 4) → (w_X6_side_33 post (fun (q0 : Int32) (q1 : Int32) (q2 : Nat → Int32) (q3 : Nat → Nat → Int32) => w_X6_side_5 post x1 x2 ml n0 q0 q1 q2 q3) x1 x2 ml x3 (nI 1) (nI 255) (nI 1) mi ma)))) ∧ (x3 = 0 → (w_X6_side_33 post (fun (q0 : Int32) (q1 : Int32) (q2 : Nat → Int32) (q3 : Nat → Nat → Int32) => w_X6_side_5 post x1 x2 ml n0 q0 q1 q2 q3) x1 x2 ml x3 x2 (nI 255) (nI 1) mi ma)))))
def w_X6_side (post : (Int32) → (Nat → Int32) → (Nat → Nat → Int32) → Prop) (x1 : Int32) (x2 : Int32) (mi : Nat → Int32) (ma : Nat → Nat → Int32) (ml : Nat → Nat → Int64) : Prop :=
 (∃ n1 : Nat, (w_X6_side_5 post x1 x2 ml n1 (nI 0) (nI 1) mi ma))
theorem b_X6_side_55 {post : (Int32) → (Nat → Int32) → (Nat → Nat → Int32) → Prop}   {x1 : Int32} {x2 : Int32} {ml : Nat → Nat → Int64} {k5 : (Int32) → (Int32) → (Nat → Int32) → (Nat → Nat → Int32) → Prop} (hb : mOK b)  (hk5 : ∀ (x3 : Int32) (x4 : Int32) (mi : Nat → Int32) (ma : Nat → Nat → Int32), k5 x3 x4 mi ma → VV l E X cX6_side RX6 "side" 6 r_X6_side (some .int) (vpi (fun (r : Int32) (h' : AH) => ∃ (mi' : Nat → Int32) (ma' : Nat → Nat → Int32), h' = (mH b mi' ma' ml) ∧ post r mi' ma')) (mH b mi ma ml) 0 0 5 [(0, va_rf (some (b 0))), (1, .int x1), (2, .int x2), (3, .int x3), (4, .int x4)] []) (x3 : Int32) (mi : Nat → Int32) (ma : Nat → Nat → Int32) (hw : w_X6_side_55 post k5 x1 x2 ml x3 mi ma) : VV l E X cX6_side RX6 "side" 6 r_X6_side (some .int) (vpi (fun (r : Int32) (h' : AH) => ∃ (mi' : Nat → Int32) (ma' : Nat → Nat → Int32), h' = (mH b mi' ma' ml) ∧ post r mi' ma')) (mH b mi ma ml) 0 0 55 [(0, va_rf (some (b 0))), (1, .int x1), (2, .int x2), (3, .int x3)] [] := by
  obtain ⟨z_1, e_1⟩ : ∃ z9 : Int32, z9 = x3 + (nI 1) := ⟨_, rfl⟩
  replace hw := hw z_1 e_1
  refine v_iinc (q := 3) (v := z_1) (lv1 := [(3, .int z_1), (0, va_rf (some (b 0))), (1, .int x1), (2, .int x2)]) dX6_side_55 rfl (by rw [e_1, ic_1]) (Nat.le_of_ble_eq_true rfl) rfl ?_
  refine v_aload_n (q := 1) dX6_side_58 rfl rfl ?_
  refine v_bipush dX6_side_59 bp_14 ?_
  refine v_callV q1828 q1830 qs63 q113 q1831 (ci := 7) rfl (mH_obj hb) n_X6_is ⟨Nat.le_of_ble_eq_true rfl, Nat.le_of_ble_eq_true rfl⟩ [.int (nI 14)] [] (met_X6_is hb hw) rfl (Nat.zero_le _) ⟨Nat.le_refl _, Nat.le_refl _⟩ dX6_side_61 rfl (v_ki (fun z_2 h1 hv => ?_))
  clear hw
  obtain ⟨e9, hw⟩ := hv
  refine v_heap e9 ?_
  clear e9
  refine v_istore (lv1 := [(4, .int z_2), (3, .int z_1), (0, va_rf (some (b 0))), (1, .int x1), (2, .int x2)]) dX6_side_64 (Nat.le_of_ble_eq_true rfl) rfl ?_
  refine v_goto (tgt := 5) dX6_side_66 (by decide) ?_
  refine v_sub [2, 3, 4, 1, 0] rfl ?_
  exact hk5 z_1 z_2 mi ma hw
theorem b_X6_side_33 {post : (Int32) → (Nat → Int32) → (Nat → Nat → Int32) → Prop}   {x1 : Int32} {x2 : Int32} {ml : Nat → Nat → Int64} {k5 : (Int32) → (Int32) → (Nat → Int32) → (Nat → Nat → Int32) → Prop} (hb : mOK b)  (hk5 : ∀ (x3 : Int32) (x4 : Int32) (mi : Nat → Int32) (ma : Nat → Nat → Int32), k5 x3 x4 mi ma → VV l E X cX6_side RX6 "side" 6 r_X6_side (some .int) (vpi (fun (r : Int32) (h' : AH) => ∃ (mi' : Nat → Int32) (ma' : Nat → Nat → Int32), h' = (mH b mi' ma' ml) ∧ post r mi' ma')) (mH b mi ma ml) 0 0 5 [(0, va_rf (some (b 0))), (1, .int x1), (2, .int x2), (3, .int x3), (4, .int x4)] []) (x3 : Int32) (s0 : Int32) (s1 : Int32) (s2 : Int32) (mi : Nat → Int32) (ma : Nat → Nat → Int32) (hw : w_X6_side_33 post k5 x1 x2 ml x3 s0 s1 s2 mi ma) : VV l E X cX6_side RX6 "side" 6 r_X6_side (some .int) (vpi (fun (r : Int32) (h' : AH) => ∃ (mi' : Nat → Int32) (ma' : Nat → Nat → Int32), h' = (mH b mi' ma' ml) ∧ post r mi' ma')) (mH b mi ma ml) 0 0 33 [(0, va_rf (some (b 0))), (1, .int x1), (2, .int x2), (3, .int x3)] [.int s0, .int s1, .int s2, va_rf (some (b 0))] := by
  refine v_callV q1824 q1826 qs62 q113 q1827 (ci := 7) rfl (mH_obj hb) n_X6_reads ⟨Nat.le_of_ble_eq_true rfl, Nat.le_of_ble_eq_true rfl⟩ [.int s2, .int s1, .int s0] [] (met_X6_reads hb hw) rfl (Nat.zero_le _) ⟨Nat.le_refl _, Nat.le_refl _⟩ dX6_side_33 rfl (v_ki (fun z_3 h1 hv => ?_))
  clear hw
  obtain ⟨mi_4, rfl, hw⟩ := hv
  refine v_istore (lv1 := [(5, .int z_3), (0, va_rf (some (b 0))), (1, .int x1), (2, .int x2), (3, .int x3)]) dX6_side_36 (Nat.le_of_ble_eq_true rfl) rfl ?_
  refine v_aload_n (q := 1) dX6_side_38 rfl rfl ?_
  refine vm_get hb 15 (Nat.le_of_ble_eq_true rfl) q1629 rfl dX6_side_39 rfl ?_
  obtain ⟨hw_7, hw_8⟩ := hw
  refine v_if_ne (tgt := 55) dX6_side_42 (by decide) (fun c_5 => ?_) (fun c_6 => ?_)
  · have hw := hw_7 c_5
    refine v_sub [1, 2, 3, 4] rfl ?_
    exact b_X6_side_55 hb hk5 x3 mi_4 ma hw
  · have hw := hw_8 c_6
    refine v_aload_n (q := 1) dX6_side_45 rfl rfl ?_
    refine vm_get hb 6 (Nat.le_of_ble_eq_true rfl) q1620 rfl dX6_side_46 rfl ?_
    refine v_iload_n (q := 2) dX6_side_49 rfl rfl ?_
    refine v_iload_n (q := 4) dX6_side_50 rfl rfl ?_
    refine v_iadd dX6_side_51 ?_
    refine v_iload (q := 0) dX6_side_52 rfl ?_
    obtain ⟨hi_9, hw⟩ := hw
    obtain ⟨ma_10, ema_10⟩ : ∃ z9 : Nat → Nat → Int32, z9 = mup ma 6 ((x1 + x3)).toNatClampNeg z_3 := ⟨_, rfl⟩
    replace hw := hw ma_10 ema_10
    refine v_iast dX6_side_54 (mH_ar6 hb) hi_9 ?_
    refine v_heap (h' := mH b mi_4 ma_10 ml) (by rw [ema_10]; exact mH_st6 hb) ?_
    refine v_sub [1, 2, 3, 4] rfl ?_
    exact b_X6_side_55 hb hk5 x3 mi_4 ma_10 hw
theorem b_X6_side_5 {post : (Int32) → (Nat → Int32) → (Nat → Nat → Int32) → Prop}   {x1 : Int32} {x2 : Int32} {ml : Nat → Nat → Int64}  (hb : mOK b)   : ∀ (n0 : Nat) (x3 : Int32) (x4 : Int32) (mi : Nat → Int32) (ma : Nat → Nat → Int32), w_X6_side_5 post x1 x2 ml n0 x3 x4 mi ma → VV l E X cX6_side RX6 "side" 6 r_X6_side (some .int) (vpi (fun (r : Int32) (h' : AH) => ∃ (mi' : Nat → Int32) (ma' : Nat → Nat → Int32), h' = (mH b mi' ma' ml) ∧ post r mi' ma')) (mH b mi ma ml) 0 0 5 [(0, va_rf (some (b 0))), (1, .int x1), (2, .int x2), (3, .int x3), (4, .int x4)] [] := by
  intro n0
  induction n0 with
  | zero =>
    intro x3 x4 mi ma hw
    exact hw.elim
  | succ n0 ih =>
    intro x3 x4 mi ma hw
    refine v_iload (q := 4) dX6_side_5 rfl ?_
    obtain ⟨hw_13, hw_14⟩ := hw
    refine v_if_eq (tgt := 69) dX6_side_7 (by decide) (fun c_11 => ?_) (fun c_12 => ?_)
    · have hw := hw_13 c_11
      refine v_iload_n (q := 3) dX6_side_69 rfl rfl ?_
      exact v_iret dX6_side_70 rfl ⟨_, rfl, _, _, rfl, hw⟩
    · have hw := hw_14 c_12
      refine v_aload_n (q := 0) dX6_side_10 rfl rfl ?_
      refine v_iconst dX6_side_11 ic_1 ?_
      refine v_sipush dX6_side_12 sp_255 ?_
      refine v_iload_n (q := 3) dX6_side_15 rfl rfl ?_
      obtain ⟨hw_17, hw_18⟩ := hw
      refine v_if_ne (tgt := 23) dX6_side_16 (by decide) (fun c_15 => ?_) (fun c_16 => ?_)
      · have hw := hw_17 c_15
        refine v_iload_n (q := 3) dX6_side_23 rfl rfl ?_
        refine v_iconst dX6_side_24 ic_4 ?_
        obtain ⟨hw_21, hw_22⟩ := hw
        refine v_icmp_ne (tgt := 32) dX6_side_25 (by decide) (fun c_19 => ?_) (fun c_20 => ?_)
        · have hw := hw_21 c_19
          refine v_iconst dX6_side_32 ic_0 ?_
          refine v_sub [0, 1, 2, 3] rfl ?_
          exact b_X6_side_33 hb (fun q0 q1 q2 q3 z => ih q0 q1 q2 q3 z) x3 (nI 0) (nI 255) (nI 1) mi ma hw
        · have hw := hw_22 c_20
          refine v_iconst dX6_side_28 ic_1 ?_
          refine v_goto (tgt := 33) dX6_side_29 (by decide) ?_
          refine v_sub [0, 1, 2, 3] rfl ?_
          exact b_X6_side_33 hb (fun q0 q1 q2 q3 z => ih q0 q1 q2 q3 z) x3 (nI 1) (nI 255) (nI 1) mi ma hw
      · have hw := hw_18 c_16
        refine v_iload_n (q := 2) dX6_side_19 rfl rfl ?_
        refine v_goto (tgt := 33) dX6_side_20 (by decide) ?_
        refine v_sub [0, 1, 2, 3] rfl ?_
        exact b_X6_side_33 hb (fun q0 q1 q2 q3 z => ih q0 q1 q2 q3 z) x3 x2 (nI 255) (nI 1) mi ma hw
theorem e_X6_side {post : (Int32) → (Nat → Int32) → (Nat → Nat → Int32) → Prop}   {x1 : Int32} {x2 : Int32} {mi : Nat → Int32} {ma : Nat → Nat → Int32} {ml : Nat → Nat → Int64} (hb : mOK b)  (hw : w_X6_side post  x1 x2 mi ma ml) : VV l E X cX6_side RX6 "side" 6 r_X6_side (some .int) (vpi (fun (r : Int32) (h' : AH) => ∃ (mi' : Nat → Int32) (ma' : Nat → Nat → Int32), h' = (mH b mi' ma' ml) ∧ post r mi' ma')) (mH b mi ma ml) 0 0 0 [(0, va_rf (some (b 0))), (1, .int x1), (2, .int x2)] [] := by
  refine v_iconst dX6_side_0 ic_0 ?_
  refine v_istore_n (lv1 := [(3, .int (nI 0)), (0, va_rf (some (b 0))), (1, .int x1), (2, .int x2)]) dX6_side_1 rfl (Nat.le_of_ble_eq_true rfl) rfl ?_
  refine v_iconst dX6_side_2 ic_1 ?_
  refine v_istore (lv1 := [(4, .int (nI 1)), (3, .int (nI 0)), (0, va_rf (some (b 0))), (1, .int x1), (2, .int x2)]) dX6_side_3 (Nat.le_of_ble_eq_true rfl) rfl ?_
  obtain ⟨n_23, hw⟩ := hw
  refine v_sub [2, 3, 4, 1, 0] rfl ?_
  exact b_X6_side_5 hb n_23 (nI 0) (nI 1) mi ma hw
theorem met_X6_side {post : (Int32) → (Nat → Int32) → (Nat → Nat → Int32) → Prop}   {x1 : Int32} {x2 : Int32} {mi : Nat → Int32} {ma : Nat → Nat → Int32} {ml : Nat → Nat → Int64} (hb : mOK b)  (hw : w_X6_side post  x1 x2 mi ma ml) : Mt l E yX6_side (ws_ yX6_side cX6_side 6 (some .int)) r_X6_side [va_rf (some (b 0)), .int x1, .int x2] (mH b mi ma ml) (vpi (fun (r : Int32) (h' : AH) => ∃ (mi' : Nat → Int32) (ma' : Nat → Nat → Int32), h' = (mH b mi' ma' ml) ∧ post r mi' ma')) := v_entry (by decide +kernel) (Nat.le_of_ble_eq_true rfl) rfl (fun _ => e_X6_side hb hw)
/-! X6_eats -/
abbrev r_X6_eats : Room := { frames := 9, cells := 0, slots := 0, locals := 464 }
theorem n_X6_eats : vdn yX6_eats 1 := ⟨by decide +kernel, by decide +kernel, by decide +kernel⟩
def w_X6_eats (post : (Int32) → (Nat → Int32) → Prop) (x1 : Int32) (mi : Nat → Int32) (ma : Nat → Nat → Int32) (ml : Nat → Nat → Int64) : Prop :=
 (w_X6_is (fun (z_1 : Int32) => ((¬ z_1 = 0 → (w_X6_next (fun (mi_6 : Nat → Int32) => (post (nI 1) mi_6)) mi ma ml)) ∧ (z_1 = 0 → (post (nI 0) mi)))) x1 mi ma ml)
theorem e_X6_eats {post : (Int32) → (Nat → Int32) → Prop}   {x1 : Int32} {mi : Nat → Int32} {ma : Nat → Nat → Int32} {ml : Nat → Nat → Int64} (hb : mOK b)  (hw : w_X6_eats post  x1 mi ma ml) : VV l E X cX6_eats RX6 "eats" 2 r_X6_eats (some .boolean) (vpi (fun (r : Int32) (h' : AH) => ∃ (mi' : Nat → Int32), h' = (mH b mi' ma ml) ∧ post r mi')) (mH b mi ma ml) 0 0 0 [(0, va_rf (some (b 0))), (1, .int x1)] [] := by
  refine v_aload_n (q := 0) dX6_eats_0 rfl rfl ?_
  refine v_iload_n (q := 1) dX6_eats_1 rfl rfl ?_
  refine v_callV q1828 q1830 qs63 q113 q1831 (ci := 7) rfl (mH_obj hb) n_X6_is ⟨Nat.le_of_ble_eq_true rfl, Nat.le_of_ble_eq_true rfl⟩ [.int x1] [] (met_X6_is hb hw) rfl (Nat.zero_le _) ⟨Nat.le_refl _, Nat.le_refl _⟩ dX6_eats_2 rfl (v_ki (fun z_1 h1 hv => ?_))
  clear hw
  obtain ⟨e9, hw⟩ := hv
  refine v_heap e9 ?_
  clear e9
  obtain ⟨hw_4, hw_5⟩ := hw
  refine v_if_ne (tgt := 10) dX6_eats_5 (by decide) (fun c_2 => ?_) (fun c_3 => ?_)
  · have hw := hw_4 c_2
    refine v_aload_n (q := 0) dX6_eats_10 rfl rfl ?_
    refine v_callV q1795 q1797 qs57 q113 q1798 (ci := 7) rfl (mH_obj hb) n_X6_next ⟨Nat.le_of_ble_eq_true rfl, Nat.le_of_ble_eq_true rfl⟩ [] [] (met_X6_next hb hw) rfl (Nat.zero_le _) ⟨Nat.le_refl _, Nat.le_refl _⟩ dX6_eats_11 rfl (v_kv (fun h1 hv => ?_))
    clear hw
    obtain ⟨mi_6, rfl, hw⟩ := hv
    refine v_iconst dX6_eats_14 ic_1 ?_
    exact v_zret dX6_eats_15 rfl rfl ⟨_, rfl, _, rfl, hw⟩
  · have hw := hw_5 c_3
    refine v_iconst dX6_eats_8 ic_0 ?_
    exact v_zret dX6_eats_9 rfl rfl ⟨_, rfl, _, rfl, hw⟩
theorem met_X6_eats {post : (Int32) → (Nat → Int32) → Prop}   {x1 : Int32} {mi : Nat → Int32} {ma : Nat → Nat → Int32} {ml : Nat → Nat → Int64} (hb : mOK b)  (hw : w_X6_eats post  x1 mi ma ml) : Mt l E yX6_eats (ws_ yX6_eats cX6_eats 2 (some .boolean)) r_X6_eats [va_rf (some (b 0)), .int x1] (mH b mi ma ml) (vpi (fun (r : Int32) (h' : AH) => ∃ (mi' : Nat → Int32), h' = (mH b mi' ma ml) ∧ post r mi')) := v_entry (by decide +kernel) (Nat.le_of_ble_eq_true rfl) rfl (fun _ => e_X6_eats hb hw)
/-! X6_needs -/
abbrev r_X6_needs : Room := { frames := 10, cells := 0, slots := 0, locals := 485 }
theorem n_X6_needs : vdn yX6_needs 1 := ⟨by decide +kernel, by decide +kernel, by decide +kernel⟩
def w_X6_needs (post : (Nat → Int32) → Prop) (x1 : Int32) (mi : Nat → Int32) (ma : Nat → Nat → Int32) (ml : Nat → Nat → Int64) : Prop :=
 (w_X6_eats (fun (z_1 : Int32) (mi_2 : Nat → Int32) => ((¬ z_1 = 0 → (post mi_2)) ∧ (z_1 = 0 → (w_X6_fails (fun (mi_7 : Nat → Int32) => (post mi_7)) (nI 2) mi_2 ma ml)))) x1 mi ma ml)
theorem e_X6_needs {post : (Nat → Int32) → Prop}   {x1 : Int32} {mi : Nat → Int32} {ma : Nat → Nat → Int32} {ml : Nat → Nat → Int64} (hb : mOK b)  (hw : w_X6_needs post  x1 mi ma ml) : VV l E X cX6_needs RX6 "needs" 2 r_X6_needs none (vpv (fun (h' : AH) => ∃ (mi' : Nat → Int32), h' = (mH b mi' ma ml) ∧ post mi')) (mH b mi ma ml) 0 0 0 [(0, va_rf (some (b 0))), (1, .int x1)] [] := by
  refine v_aload_n (q := 0) dX6_needs_0 rfl rfl ?_
  refine v_iload_n (q := 1) dX6_needs_1 rfl rfl ?_
  refine v_callV q1840 q1842 qs66 q113 q1843 (ci := 7) rfl (mH_obj hb) n_X6_eats ⟨Nat.le_of_ble_eq_true rfl, Nat.le_of_ble_eq_true rfl⟩ [.int x1] [] (met_X6_eats hb hw) rfl (Nat.zero_le _) ⟨Nat.le_refl _, Nat.le_refl _⟩ dX6_needs_2 rfl (v_ki (fun z_1 h1 hv => ?_))
  clear hw
  obtain ⟨mi_2, rfl, hw⟩ := hv
  obtain ⟨hw_5, hw_6⟩ := hw
  refine v_if_ne (tgt := 13) dX6_needs_5 (by decide) (fun c_3 => ?_) (fun c_4 => ?_)
  · have hw := hw_5 c_3
    exact v_vret dX6_needs_13 rfl ⟨rfl, _, rfl, hw⟩
  · have hw := hw_6 c_4
    refine v_aload_n (q := 0) dX6_needs_8 rfl rfl ?_
    refine v_iconst dX6_needs_9 ic_2 ?_
    refine v_callV q1832 q1834 qs64 q113 q1835 (ci := 7) rfl (mH_obj hb) n_X6_fails ⟨Nat.le_of_ble_eq_true rfl, Nat.le_of_ble_eq_true rfl⟩ [.int (nI 2)] [] (met_X6_fails hb hw) rfl (Nat.zero_le _) ⟨Nat.le_refl _, Nat.le_refl _⟩ dX6_needs_10 rfl (v_kv (fun h1 hv => ?_))
    clear hw
    obtain ⟨mi_7, rfl, hw⟩ := hv
    exact v_vret dX6_needs_13 rfl ⟨rfl, _, rfl, hw⟩
theorem met_X6_needs {post : (Nat → Int32) → Prop}   {x1 : Int32} {mi : Nat → Int32} {ma : Nat → Nat → Int32} {ml : Nat → Nat → Int64} (hb : mOK b)  (hw : w_X6_needs post  x1 mi ma ml) : Mt l E yX6_needs (ws_ yX6_needs cX6_needs 2 none) r_X6_needs [va_rf (some (b 0)), .int x1] (mH b mi ma ml) (vpv (fun (h' : AH) => ∃ (mi' : Nat → Int32), h' = (mH b mi' ma ml) ∧ post mi')) := v_entry (by decide +kernel) (Nat.le_of_ble_eq_true rfl) rfl (fun _ => e_X6_needs hb hw)
/-! X6_emit -/
abbrev r_X6_emit : Room := { frames := 0, cells := 0, slots := 0, locals := 0 }
theorem n_X6_emit : vdn yX6_emit 2 := ⟨by decide +kernel, by decide +kernel, by decide +kernel⟩
def w_X6_emit (post : (Nat → Int32) → (Nat → Nat → Int32) → Prop) (x1 : Int32) (x2 : Int32) (mi : Nat → Int32) (ma : Nat → Nat → Int32) (ml : Nat → Nat → Int64) : Prop :=
 (vp_in ((nI 2080) + ((nI 2) * (mi 18))) 2580 ∧ ∀ ma_2 : Nat → Nat → Int32, ma_2 = mup ma 6 (((nI 2080) + ((nI 2) * (mi 18)))).toNatClampNeg x1 → (vp_in (((nI 2080) + ((nI 2) * (mi 18))) + (nI 1)) 2580 ∧ ∀ ma_4 : Nat → Nat → Int32, ma_4 = mup ma_2 6 ((((nI 2080) + ((nI 2) * (mi 18))) + (nI 1))).toNatClampNeg x2 → (∀ mi_5 : Nat → Int32, mi_5 = upd mi 18 ((mi 18) + (nI 1)) → (post mi_5 ma_4))))
theorem e_X6_emit {post : (Nat → Int32) → (Nat → Nat → Int32) → Prop}   {x1 : Int32} {x2 : Int32} {mi : Nat → Int32} {ma : Nat → Nat → Int32} {ml : Nat → Nat → Int64} (hb : mOK b)  (hw : w_X6_emit post  x1 x2 mi ma ml) : VV l E X cX6_emit RX6 "emit" 3 r_X6_emit none (vpv (fun (h' : AH) => ∃ (mi' : Nat → Int32) (ma' : Nat → Nat → Int32), h' = (mH b mi' ma' ml) ∧ post mi' ma')) (mH b mi ma ml) 0 0 0 [(0, va_rf (some (b 0))), (1, .int x1), (2, .int x2)] [] := by
  refine v_aload_n (q := 0) dX6_emit_0 rfl rfl ?_
  refine vm_get hb 6 (Nat.le_of_ble_eq_true rfl) q1620 rfl dX6_emit_1 rfl ?_
  refine v_sipush dX6_emit_4 sp_2080 ?_
  refine v_iconst dX6_emit_7 ic_2 ?_
  refine v_aload_n (q := 0) dX6_emit_8 rfl rfl ?_
  refine vm_get hb 18 (Nat.le_of_ble_eq_true rfl) q1632 rfl dX6_emit_9 rfl ?_
  refine v_imul dX6_emit_12 ?_
  refine v_iadd dX6_emit_13 ?_
  refine v_iload_n (q := 1) dX6_emit_14 rfl rfl ?_
  obtain ⟨hi_1, hw⟩ := hw
  obtain ⟨ma_2, ema_2⟩ : ∃ z9 : Nat → Nat → Int32, z9 = mup ma 6 (((nI 2080) + ((nI 2) * (mi 18)))).toNatClampNeg x1 := ⟨_, rfl⟩
  replace hw := hw ma_2 ema_2
  refine v_iast dX6_emit_15 (mH_ar6 hb) hi_1 ?_
  refine v_heap (h' := mH b mi ma_2 ml) (by rw [ema_2]; exact mH_st6 hb) ?_
  refine v_aload_n (q := 0) dX6_emit_16 rfl rfl ?_
  refine vm_get hb 6 (Nat.le_of_ble_eq_true rfl) q1620 rfl dX6_emit_17 rfl ?_
  refine v_sipush dX6_emit_20 sp_2080 ?_
  refine v_iconst dX6_emit_23 ic_2 ?_
  refine v_aload_n (q := 0) dX6_emit_24 rfl rfl ?_
  refine vm_get hb 18 (Nat.le_of_ble_eq_true rfl) q1632 rfl dX6_emit_25 rfl ?_
  refine v_imul dX6_emit_28 ?_
  refine v_iadd dX6_emit_29 ?_
  refine v_iconst dX6_emit_30 ic_1 ?_
  refine v_iadd dX6_emit_31 ?_
  refine v_iload_n (q := 2) dX6_emit_32 rfl rfl ?_
  obtain ⟨hi_3, hw⟩ := hw
  obtain ⟨ma_4, ema_4⟩ : ∃ z9 : Nat → Nat → Int32, z9 = mup ma_2 6 ((((nI 2080) + ((nI 2) * (mi 18))) + (nI 1))).toNatClampNeg x2 := ⟨_, rfl⟩
  replace hw := hw ma_4 ema_4
  refine v_iast dX6_emit_33 (mH_ar6 hb) hi_3 ?_
  refine v_heap (h' := mH b mi ma_4 ml) (by rw [ema_4]; exact mH_st6 hb) ?_
  refine v_aload_n (q := 0) dX6_emit_34 rfl rfl ?_
  refine v_dup dX6_emit_35 (v_rf1 _) ?_
  refine vm_get hb 18 (Nat.le_of_ble_eq_true rfl) q1632 rfl dX6_emit_36 rfl ?_
  refine v_iconst dX6_emit_39 ic_1 ?_
  refine v_iadd dX6_emit_40 ?_
  obtain ⟨mi_5, emi_5⟩ : ∃ z9 : Nat → Int32, z9 = upd mi 18 ((mi 18) + (nI 1)) := ⟨_, rfl⟩
  replace hw := hw mi_5 emi_5
  refine vm_put hb 18 (Nat.le_of_ble_eq_true rfl) q1632 rfl rfl rfl dX6_emit_41 emi_5 rfl ?_
  exact v_vret dX6_emit_44 rfl ⟨rfl, _, _, rfl, hw⟩
theorem met_X6_emit {post : (Nat → Int32) → (Nat → Nat → Int32) → Prop}   {x1 : Int32} {x2 : Int32} {mi : Nat → Int32} {ma : Nat → Nat → Int32} {ml : Nat → Nat → Int64} (hb : mOK b)  (hw : w_X6_emit post  x1 x2 mi ma ml) : Mt l E yX6_emit (ws_ yX6_emit cX6_emit 3 none) r_X6_emit [va_rf (some (b 0)), .int x1, .int x2] (mH b mi ma ml) (vpv (fun (h' : AH) => ∃ (mi' : Nat → Int32) (ma' : Nat → Nat → Int32), h' = (mH b mi' ma' ml) ∧ post mi' ma')) := v_entry (by decide +kernel) (Nat.le_of_ble_eq_true rfl) rfl (fun _ => e_X6_emit hb hw)
/-! X6_readWay -/
abbrev r_X6_readWay : Room := { frames := 11, cells := 0, slots := 0, locals := 506 }
theorem n_X6_readWay : vdn yX6_readWay 0 := ⟨by decide +kernel, by decide +kernel, by decide +kernel⟩
def w_X6_readWay_189 (post : (Nat → Int32) → (Nat → Nat → Int32) → Prop) (ml : Nat → Nat → Int64) (x1 : Int32) (mi : Nat → Int32) (ma : Nat → Nat → Int32) : Prop :=
 (w_X6_needs (fun (mi_1 : Nat → Int32) => (vp_in x1 116 ∧ (vp_in x1 116 ∧ ∀ ma_4 : Nat → Nat → Int32, ma_4 = mup ma 7 (x1).toNatClampNeg ((ma 7 (x1).toNatClampNeg) + (nI 1)) → (post mi_1 ma_4)))) (nI 15) mi ma ml)
def w_X6_readWay_186 (post : (Nat → Int32) → (Nat → Nat → Int32) → Prop) (ml : Nat → Nat → Int64) (x1 : Int32) (x3 : Int32) (s0 : Int32) (s1 : Int32) (mi : Nat → Int32) (ma : Nat → Nat → Int32) : Prop :=
 (vp_in (s1 + s0) 116 ∧ ∀ ma_6 : Nat → Nat → Int32, ma_6 = mup ma 7 ((s1 + s0)).toNatClampNeg x3 → (w_X6_readWay_189 post ml x1 mi ma_6))
def w_X6_readWay_48 (post : (Nat → Int32) → (Nat → Nat → Int32) → Prop) (ml : Nat → Nat → Int64) (x1 : Int32) (mi : Nat → Int32) (ma : Nat → Nat → Int32) : Prop :=
 (((mi 15) = 0 → (w_X6_next (fun (mi_11 : Nat → Int32) => ((¬ (mi 13) = (nI 11) → (w_X6_reads (fun (z_16 : Int32) (mi_17 : Nat → Int32) => ((¬ (mi 13) = (nI 8) → ((¬ (mi 13) = (nI 9) → (w_X6_readWay_186 post ml x1 z_16 (nI 3) x1 mi_17 ma)) ∧ ((mi 13) = (nI 9) → (w_X6_readWay_186 post ml x1 z_16 (nI 2) x1 mi_17 ma)))) ∧ ((mi 13) = (nI 8) → (w_X6_readWay_186 post ml x1 z_16 (nI 1) x1 mi_17 ma)))) (nI 0) (nI 99) (nI 0) mi_11 ma ml)) ∧ ((mi 13) = (nI 11) → (w_X6_reads (fun (z_26 : Int32) (mi_27 : Nat → Int32) => (w_X6_needs (fun (mi_28 : Nat → Int32) => (w_X6_reads (fun (z_29 : Int32) (mi_30 : Nat → Int32) => (vp_in (x1 + (nI 4)) 116 ∧ (vp_in ((x1 + (nI 5)) + (ma 7 ((x1 + (nI 4))).toNatClampNeg)) 116 ∧ ∀ ma_33 : Nat → Nat → Int32, ma_33 = mup ma 7 (((x1 + (nI 5)) + (ma 7 ((x1 + (nI 4))).toNatClampNeg))).toNatClampNeg z_26 → (vp_in (x1 + (nI 4)) 116 ∧ (vp_in ((x1 + (nI 17)) + (ma_33 7 ((x1 + (nI 4))).toNatClampNeg)) 116 ∧ ∀ ma_36 : Nat → Nat → Int32, ma_36 = mup ma_33 7 (((x1 + (nI 17)) + (ma_33 7 ((x1 + (nI 4))).toNatClampNeg))).toNatClampNeg z_29 → (vp_in (x1 + (nI 4)) 116 ∧ (vp_in (x1 + (nI 4)) 116 ∧ ∀ ma_39 : Nat → Nat → Int32, ma_39 = mup ma_36 7 ((x1 + (nI 4))).toNatClampNeg ((ma_36 7 ((x1 + (nI 4))).toNatClampNeg) + (nI 1)) → (w_X6_readWay_189 post ml x1 mi_30 ma_39)))))))) (nI 1) (nI 255) (nI 0) mi_28 ma ml)) (nI 12) mi_27 ma ml)) (nI 1) (nI 255) (nI 0) mi_11 ma ml)))) mi ma ml)) ∧ (¬ (mi 15) = 0 → (post mi ma)))
def w_X6_readWay_32 (post : (Nat → Int32) → (Nat → Nat → Int32) → Prop) (ml : Nat → Nat → Int64) (x1 : Int32) (mi : Nat → Int32) (ma : Nat → Nat → Int32) : Prop :=
 (vp_in x1 116 ∧ ((¬ (ma 7 (x1).toNatClampNeg) = (nI 12) → (w_X6_readWay_48 post ml x1 mi ma)) ∧ ((ma 7 (x1).toNatClampNeg) = (nI 12) → (w_X6_fails (fun (mi_45 : Nat → Int32) => (w_X6_readWay_48 post ml x1 mi_45 ma)) (nI 4) mi ma ml))))
def w_X6_readWay (post : (Nat → Int32) → (Nat → Nat → Int32) → Prop) (mi : Nat → Int32) (ma : Nat → Nat → Int32) (ml : Nat → Nat → Int64) : Prop :=
 ((¬ (mi 15) = 0 → (w_X6_readWay_32 post ml (nI 87) mi ma)) ∧ ((mi 15) = 0 → (w_X6_within (fun (z_50 : Int32) => ((¬ z_50 = 0 → (w_X6_readWay_32 post ml (nI 87) mi ma)) ∧ (z_50 = 0 → (w_X6_fails (fun (mi_55 : Nat → Int32) => (w_X6_readWay_32 post ml (nI 87) mi_55 ma)) (nI 2) mi ma ml)))) (((mi 13)).toInt64) (lN 8) (lN 11))))
theorem b_X6_readWay_189 {post : (Nat → Int32) → (Nat → Nat → Int32) → Prop}   {ml : Nat → Nat → Int64}  (hb : mOK b)   (x1 : Int32) (mi : Nat → Int32) (ma : Nat → Nat → Int32) (hw : w_X6_readWay_189 post ml x1 mi ma) : VV l E X cX6_readWay RX6 "readWay" 5 r_X6_readWay none (vpv (fun (h' : AH) => ∃ (mi' : Nat → Int32) (ma' : Nat → Nat → Int32), h' = (mH b mi' ma' ml) ∧ post mi' ma')) (mH b mi ma ml) 0 0 189 [(0, va_rf (some (b 0))), (1, .int x1)] [] := by
  refine v_aload_n (q := 0) dX6_readWay_189 rfl rfl ?_
  refine v_bipush dX6_readWay_190 bp_15 ?_
  refine v_callV q1836 q1838 qs65 q113 q1839 (ci := 7) rfl (mH_obj hb) n_X6_needs ⟨Nat.le_of_ble_eq_true rfl, Nat.le_of_ble_eq_true rfl⟩ [.int (nI 15)] [] (met_X6_needs hb hw) rfl (Nat.zero_le _) ⟨Nat.le_refl _, Nat.le_refl _⟩ dX6_readWay_192 rfl (v_kv (fun h1 hv => ?_))
  clear hw
  obtain ⟨mi_1, rfl, hw⟩ := hv
  refine v_aload_n (q := 0) dX6_readWay_195 rfl rfl ?_
  refine vm_get hb 7 (Nat.le_of_ble_eq_true rfl) q1621 rfl dX6_readWay_196 rfl ?_
  refine v_iload_n (q := 1) dX6_readWay_199 rfl rfl ?_
  refine v_dup2 dX6_readWay_200 rfl (v_rf1 _) ?_
  obtain ⟨hi_2, hw⟩ := hw
  refine v_iald dX6_readWay_201 (mH_ar7 hb) hi_2 ?_
  refine v_iconst dX6_readWay_202 ic_1 ?_
  refine v_iadd dX6_readWay_203 ?_
  obtain ⟨hi_3, hw⟩ := hw
  obtain ⟨ma_4, ema_4⟩ : ∃ z9 : Nat → Nat → Int32, z9 = mup ma 7 (x1).toNatClampNeg ((ma 7 (x1).toNatClampNeg) + (nI 1)) := ⟨_, rfl⟩
  replace hw := hw ma_4 ema_4
  refine v_iast dX6_readWay_204 (mH_ar7 hb) hi_3 ?_
  refine v_heap (h' := mH b mi_1 ma_4 ml) (by rw [ema_4]; exact mH_st7 hb) ?_
  exact v_vret dX6_readWay_205 rfl ⟨rfl, _, _, rfl, hw⟩
theorem b_X6_readWay_186 {post : (Nat → Int32) → (Nat → Nat → Int32) → Prop}   {ml : Nat → Nat → Int64}  (hb : mOK b)   (x1 : Int32) (x3 : Int32) (s0 : Int32) (s1 : Int32) (mi : Nat → Int32) (ma : Nat → Nat → Int32) (hw : w_X6_readWay_186 post ml x1 x3 s0 s1 mi ma) : VV l E X cX6_readWay RX6 "readWay" 5 r_X6_readWay none (vpv (fun (h' : AH) => ∃ (mi' : Nat → Int32) (ma' : Nat → Nat → Int32), h' = (mH b mi' ma' ml) ∧ post mi' ma')) (mH b mi ma ml) 0 0 186 [(0, va_rf (some (b 0))), (1, .int x1), (3, .int x3)] [.int s0, .int s1, va_rf (some (b 7))] := by
  refine v_iadd dX6_readWay_186 ?_
  refine v_iload_n (q := 2) dX6_readWay_187 rfl rfl ?_
  obtain ⟨hi_5, hw⟩ := hw
  obtain ⟨ma_6, ema_6⟩ : ∃ z9 : Nat → Nat → Int32, z9 = mup ma 7 ((s1 + s0)).toNatClampNeg x3 := ⟨_, rfl⟩
  replace hw := hw ma_6 ema_6
  refine v_iast dX6_readWay_188 (mH_ar7 hb) hi_5 ?_
  refine v_heap (h' := mH b mi ma_6 ml) (by rw [ema_6]; exact mH_st7 hb) ?_
  refine v_sub [0, 1] rfl ?_
  exact b_X6_readWay_189 hb x1 mi ma_6 hw
theorem b_X6_readWay_48 {post : (Nat → Int32) → (Nat → Nat → Int32) → Prop}   {ml : Nat → Nat → Int64}  (hb : mOK b)   (x1 : Int32) (mi : Nat → Int32) (ma : Nat → Nat → Int32) (hw : w_X6_readWay_48 post ml x1 mi ma) : VV l E X cX6_readWay RX6 "readWay" 5 r_X6_readWay none (vpv (fun (h' : AH) => ∃ (mi' : Nat → Int32) (ma' : Nat → Nat → Int32), h' = (mH b mi' ma' ml) ∧ post mi' ma')) (mH b mi ma ml) 0 0 48 [(0, va_rf (some (b 0))), (1, .int x1)] [] := by
  refine v_aload_n (q := 0) dX6_readWay_48 rfl rfl ?_
  refine vm_get hb 15 (Nat.le_of_ble_eq_true rfl) q1629 rfl dX6_readWay_49 rfl ?_
  obtain ⟨hw_9, hw_10⟩ := hw
  refine v_if_eq (tgt := 56) dX6_readWay_52 (by decide) (fun c_7 => ?_) (fun c_8 => ?_)
  · have hw := hw_9 c_7
    refine v_aload_n (q := 0) dX6_readWay_56 rfl rfl ?_
    refine vm_get hb 13 (Nat.le_of_ble_eq_true rfl) q1627 rfl dX6_readWay_57 rfl ?_
    refine v_istore_n (lv1 := [(2, .int (mi 13)), (0, va_rf (some (b 0))), (1, .int x1)]) dX6_readWay_60 rfl (Nat.le_of_ble_eq_true rfl) rfl ?_
    refine v_aload_n (q := 1) dX6_readWay_61 rfl rfl ?_
    refine v_callV q1795 q1797 qs57 q113 q1798 (ci := 7) rfl (mH_obj hb) n_X6_next ⟨Nat.le_of_ble_eq_true rfl, Nat.le_of_ble_eq_true rfl⟩ [] [] (met_X6_next hb hw) rfl (Nat.zero_le _) ⟨Nat.le_refl _, Nat.le_refl _⟩ dX6_readWay_62 rfl (v_kv (fun h1 hv => ?_))
    clear hw
    obtain ⟨mi_11, rfl, hw⟩ := hv
    refine v_iload_n (q := 0) dX6_readWay_65 rfl rfl ?_
    refine v_bipush dX6_readWay_66 bp_11 ?_
    obtain ⟨hw_14, hw_15⟩ := hw
    refine v_icmp_ne (tgt := 151) dX6_readWay_68 (by decide) (fun c_12 => ?_) (fun c_13 => ?_)
    · have hw := hw_14 c_12
      refine v_aload_n (q := 1) dX6_readWay_151 rfl rfl ?_
      refine v_iconst dX6_readWay_152 ic_0 ?_
      refine v_bipush dX6_readWay_153 bp_99 ?_
      refine v_iconst dX6_readWay_155 ic_0 ?_
      refine v_callV q1824 q1826 qs62 q113 q1827 (ci := 7) rfl (mH_obj hb) n_X6_reads ⟨Nat.le_of_ble_eq_true rfl, Nat.le_of_ble_eq_true rfl⟩ [.int (nI 0), .int (nI 99), .int (nI 0)] [] (met_X6_reads hb hw) rfl (Nat.zero_le _) ⟨Nat.le_refl _, Nat.le_refl _⟩ dX6_readWay_156 rfl (v_ki (fun z_16 h1 hv => ?_))
      clear hw
      obtain ⟨mi_17, rfl, hw⟩ := hv
      refine v_istore_n (lv1 := [(3, .int z_16), (2, .int (mi 13)), (0, va_rf (some (b 0))), (1, .int x1)]) dX6_readWay_159 rfl (Nat.le_of_ble_eq_true rfl) rfl ?_
      refine v_aload_n (q := 2) dX6_readWay_160 rfl rfl ?_
      refine vm_get hb 7 (Nat.le_of_ble_eq_true rfl) q1621 rfl dX6_readWay_161 rfl ?_
      refine v_iload_n (q := 3) dX6_readWay_164 rfl rfl ?_
      refine v_iload_n (q := 1) dX6_readWay_165 rfl rfl ?_
      refine v_bipush dX6_readWay_166 bp_8 ?_
      obtain ⟨hw_20, hw_21⟩ := hw
      refine v_icmp_ne (tgt := 175) dX6_readWay_168 (by decide) (fun c_18 => ?_) (fun c_19 => ?_)
      · have hw := hw_20 c_18
        refine v_iload_n (q := 1) dX6_readWay_175 rfl rfl ?_
        refine v_bipush dX6_readWay_176 bp_9 ?_
        obtain ⟨hw_24, hw_25⟩ := hw
        refine v_icmp_ne (tgt := 185) dX6_readWay_178 (by decide) (fun c_22 => ?_) (fun c_23 => ?_)
        · have hw := hw_24 c_22
          refine v_iconst dX6_readWay_185 ic_3 ?_
          refine v_sub [2, 3, 0] rfl ?_
          exact b_X6_readWay_186 hb x1 z_16 (nI 3) x1 mi_17 ma hw
        · have hw := hw_25 c_23
          refine v_iconst dX6_readWay_181 ic_2 ?_
          refine v_goto (tgt := 186) dX6_readWay_182 (by decide) ?_
          refine v_sub [2, 3, 0] rfl ?_
          exact b_X6_readWay_186 hb x1 z_16 (nI 2) x1 mi_17 ma hw
      · have hw := hw_21 c_19
        refine v_iconst dX6_readWay_171 ic_1 ?_
        refine v_goto (tgt := 186) dX6_readWay_172 (by decide) ?_
        refine v_sub [2, 3, 0] rfl ?_
        exact b_X6_readWay_186 hb x1 z_16 (nI 1) x1 mi_17 ma hw
    · have hw := hw_15 c_13
      refine v_aload_n (q := 1) dX6_readWay_71 rfl rfl ?_
      refine v_iconst dX6_readWay_72 ic_1 ?_
      refine v_sipush dX6_readWay_73 sp_255 ?_
      refine v_iconst dX6_readWay_76 ic_0 ?_
      refine v_callV q1824 q1826 qs62 q113 q1827 (ci := 7) rfl (mH_obj hb) n_X6_reads ⟨Nat.le_of_ble_eq_true rfl, Nat.le_of_ble_eq_true rfl⟩ [.int (nI 1), .int (nI 255), .int (nI 0)] [] (met_X6_reads hb hw) rfl (Nat.zero_le _) ⟨Nat.le_refl _, Nat.le_refl _⟩ dX6_readWay_77 rfl (v_ki (fun z_26 h1 hv => ?_))
      clear hw
      obtain ⟨mi_27, rfl, hw⟩ := hv
      refine v_istore_n (lv1 := [(3, .int z_26), (2, .int (mi 13)), (0, va_rf (some (b 0))), (1, .int x1)]) dX6_readWay_80 rfl (Nat.le_of_ble_eq_true rfl) rfl ?_
      refine v_aload_n (q := 2) dX6_readWay_81 rfl rfl ?_
      refine v_bipush dX6_readWay_82 bp_12 ?_
      refine v_callV q1836 q1838 qs65 q113 q1839 (ci := 7) rfl (mH_obj hb) n_X6_needs ⟨Nat.le_of_ble_eq_true rfl, Nat.le_of_ble_eq_true rfl⟩ [.int (nI 12)] [] (met_X6_needs hb hw) rfl (Nat.zero_le _) ⟨Nat.le_refl _, Nat.le_refl _⟩ dX6_readWay_84 rfl (v_kv (fun h1 hv => ?_))
      clear hw
      obtain ⟨mi_28, rfl, hw⟩ := hv
      refine v_aload_n (q := 2) dX6_readWay_87 rfl rfl ?_
      refine v_iconst dX6_readWay_88 ic_1 ?_
      refine v_sipush dX6_readWay_89 sp_255 ?_
      refine v_iconst dX6_readWay_92 ic_0 ?_
      refine v_callV q1824 q1826 qs62 q113 q1827 (ci := 7) rfl (mH_obj hb) n_X6_reads ⟨Nat.le_of_ble_eq_true rfl, Nat.le_of_ble_eq_true rfl⟩ [.int (nI 1), .int (nI 255), .int (nI 0)] [] (met_X6_reads hb hw) rfl (Nat.zero_le _) ⟨Nat.le_refl _, Nat.le_refl _⟩ dX6_readWay_93 rfl (v_ki (fun z_29 h1 hv => ?_))
      clear hw
      obtain ⟨mi_30, rfl, hw⟩ := hv
      refine v_istore (lv1 := [(4, .int z_29), (3, .int z_26), (2, .int (mi 13)), (0, va_rf (some (b 0))), (1, .int x1)]) dX6_readWay_96 (Nat.le_of_ble_eq_true rfl) rfl ?_
      refine v_aload_n (q := 3) dX6_readWay_98 rfl rfl ?_
      refine vm_get hb 7 (Nat.le_of_ble_eq_true rfl) q1621 rfl dX6_readWay_99 rfl ?_
      refine v_iload_n (q := 4) dX6_readWay_102 rfl rfl ?_
      refine v_iconst dX6_readWay_103 ic_5 ?_
      refine v_iadd dX6_readWay_104 ?_
      refine v_aload_n (q := 3) dX6_readWay_105 rfl rfl ?_
      refine vm_get hb 7 (Nat.le_of_ble_eq_true rfl) q1621 rfl dX6_readWay_106 rfl ?_
      refine v_iload_n (q := 4) dX6_readWay_109 rfl rfl ?_
      refine v_iconst dX6_readWay_110 ic_4 ?_
      refine v_iadd dX6_readWay_111 ?_
      obtain ⟨hi_31, hw⟩ := hw
      refine v_iald dX6_readWay_112 (mH_ar7 hb) hi_31 ?_
      refine v_iadd dX6_readWay_113 ?_
      refine v_iload_n (q := 1) dX6_readWay_114 rfl rfl ?_
      obtain ⟨hi_32, hw⟩ := hw
      obtain ⟨ma_33, ema_33⟩ : ∃ z9 : Nat → Nat → Int32, z9 = mup ma 7 (((x1 + (nI 5)) + (ma 7 ((x1 + (nI 4))).toNatClampNeg))).toNatClampNeg z_26 := ⟨_, rfl⟩
      replace hw := hw ma_33 ema_33
      refine v_iast dX6_readWay_115 (mH_ar7 hb) hi_32 ?_
      refine v_heap (h' := mH b mi_30 ma_33 ml) (by rw [ema_33]; exact mH_st7 hb) ?_
      refine v_aload_n (q := 3) dX6_readWay_116 rfl rfl ?_
      refine vm_get hb 7 (Nat.le_of_ble_eq_true rfl) q1621 rfl dX6_readWay_117 rfl ?_
      refine v_iload_n (q := 4) dX6_readWay_120 rfl rfl ?_
      refine v_bipush dX6_readWay_121 bp_17 ?_
      refine v_iadd dX6_readWay_123 ?_
      refine v_aload_n (q := 3) dX6_readWay_124 rfl rfl ?_
      refine vm_get hb 7 (Nat.le_of_ble_eq_true rfl) q1621 rfl dX6_readWay_125 rfl ?_
      refine v_iload_n (q := 4) dX6_readWay_128 rfl rfl ?_
      refine v_iconst dX6_readWay_129 ic_4 ?_
      refine v_iadd dX6_readWay_130 ?_
      obtain ⟨hi_34, hw⟩ := hw
      refine v_iald dX6_readWay_131 (mH_ar7 hb) hi_34 ?_
      refine v_iadd dX6_readWay_132 ?_
      refine v_iload (q := 0) dX6_readWay_133 rfl ?_
      obtain ⟨hi_35, hw⟩ := hw
      obtain ⟨ma_36, ema_36⟩ : ∃ z9 : Nat → Nat → Int32, z9 = mup ma_33 7 (((x1 + (nI 17)) + (ma_33 7 ((x1 + (nI 4))).toNatClampNeg))).toNatClampNeg z_29 := ⟨_, rfl⟩
      replace hw := hw ma_36 ema_36
      refine v_iast dX6_readWay_135 (mH_ar7 hb) hi_35 ?_
      refine v_heap (h' := mH b mi_30 ma_36 ml) (by rw [ema_36]; exact mH_st7 hb) ?_
      refine v_aload_n (q := 3) dX6_readWay_136 rfl rfl ?_
      refine vm_get hb 7 (Nat.le_of_ble_eq_true rfl) q1621 rfl dX6_readWay_137 rfl ?_
      refine v_iload_n (q := 4) dX6_readWay_140 rfl rfl ?_
      refine v_iconst dX6_readWay_141 ic_4 ?_
      refine v_iadd dX6_readWay_142 ?_
      refine v_dup2 dX6_readWay_143 rfl (v_rf1 _) ?_
      obtain ⟨hi_37, hw⟩ := hw
      refine v_iald dX6_readWay_144 (mH_ar7 hb) hi_37 ?_
      refine v_iconst dX6_readWay_145 ic_1 ?_
      refine v_iadd dX6_readWay_146 ?_
      obtain ⟨hi_38, hw⟩ := hw
      obtain ⟨ma_39, ema_39⟩ : ∃ z9 : Nat → Nat → Int32, z9 = mup ma_36 7 ((x1 + (nI 4))).toNatClampNeg ((ma_36 7 ((x1 + (nI 4))).toNatClampNeg) + (nI 1)) := ⟨_, rfl⟩
      replace hw := hw ma_39 ema_39
      refine v_iast dX6_readWay_147 (mH_ar7 hb) hi_38 ?_
      refine v_heap (h' := mH b mi_30 ma_39 ml) (by rw [ema_39]; exact mH_st7 hb) ?_
      refine v_goto (tgt := 189) dX6_readWay_148 (by decide) ?_
      refine v_sub [3, 4] rfl ?_
      exact b_X6_readWay_189 hb x1 mi_30 ma_39 hw
  · have hw := hw_10 c_8
    exact v_vret dX6_readWay_55 rfl ⟨rfl, _, _, rfl, hw⟩
theorem b_X6_readWay_32 {post : (Nat → Int32) → (Nat → Nat → Int32) → Prop}   {ml : Nat → Nat → Int64}  (hb : mOK b)   (x1 : Int32) (mi : Nat → Int32) (ma : Nat → Nat → Int32) (hw : w_X6_readWay_32 post ml x1 mi ma) : VV l E X cX6_readWay RX6 "readWay" 5 r_X6_readWay none (vpv (fun (h' : AH) => ∃ (mi' : Nat → Int32) (ma' : Nat → Nat → Int32), h' = (mH b mi' ma' ml) ∧ post mi' ma')) (mH b mi ma ml) 0 0 32 [(0, va_rf (some (b 0))), (1, .int x1)] [] := by
  refine v_aload_n (q := 0) dX6_readWay_32 rfl rfl ?_
  refine vm_get hb 7 (Nat.le_of_ble_eq_true rfl) q1621 rfl dX6_readWay_33 rfl ?_
  refine v_iload_n (q := 1) dX6_readWay_36 rfl rfl ?_
  obtain ⟨hi_40, hw⟩ := hw
  refine v_iald dX6_readWay_37 (mH_ar7 hb) hi_40 ?_
  refine v_bipush dX6_readWay_38 bp_12 ?_
  obtain ⟨hw_43, hw_44⟩ := hw
  refine v_icmp_ne (tgt := 48) dX6_readWay_40 (by decide) (fun c_41 => ?_) (fun c_42 => ?_)
  · have hw := hw_43 c_41
    refine v_sub [0, 1] rfl ?_
    exact b_X6_readWay_48 hb x1 mi ma hw
  · have hw := hw_44 c_42
    refine v_aload_n (q := 0) dX6_readWay_43 rfl rfl ?_
    refine v_iconst dX6_readWay_44 ic_4 ?_
    refine v_callV q1832 q1834 qs64 q113 q1835 (ci := 7) rfl (mH_obj hb) n_X6_fails ⟨Nat.le_of_ble_eq_true rfl, Nat.le_of_ble_eq_true rfl⟩ [.int (nI 4)] [] (met_X6_fails hb hw) rfl (Nat.zero_le _) ⟨Nat.le_refl _, Nat.le_refl _⟩ dX6_readWay_45 rfl (v_kv (fun h1 hv => ?_))
    clear hw
    obtain ⟨mi_45, rfl, hw⟩ := hv
    refine v_sub [0, 1] rfl ?_
    exact b_X6_readWay_48 hb x1 mi_45 ma hw
theorem e_X6_readWay {post : (Nat → Int32) → (Nat → Nat → Int32) → Prop}   {mi : Nat → Int32} {ma : Nat → Nat → Int32} {ml : Nat → Nat → Int64} (hb : mOK b)  (hw : w_X6_readWay post  mi ma ml) : VV l E X cX6_readWay RX6 "readWay" 5 r_X6_readWay none (vpv (fun (h' : AH) => ∃ (mi' : Nat → Int32) (ma' : Nat → Nat → Int32), h' = (mH b mi' ma' ml) ∧ post mi' ma')) (mH b mi ma ml) 0 0 0 [(0, va_rf (some (b 0)))] [] := by
  refine v_bipush dX6_readWay_0 bp_87 ?_
  refine v_istore_n (lv1 := [(1, .int (nI 87)), (0, va_rf (some (b 0)))]) dX6_readWay_2 rfl (Nat.le_of_ble_eq_true rfl) rfl ?_
  refine v_aload_n (q := 1) dX6_readWay_3 rfl rfl ?_
  refine vm_get hb 15 (Nat.le_of_ble_eq_true rfl) q1629 rfl dX6_readWay_4 rfl ?_
  obtain ⟨hw_48, hw_49⟩ := hw
  refine v_if_ne (tgt := 32) dX6_readWay_7 (by decide) (fun c_46 => ?_) (fun c_47 => ?_)
  · have hw := hw_48 c_46
    refine v_sub [1, 0] rfl ?_
    exact b_X6_readWay_32 hb (nI 87) mi ma hw
  · have hw := hw_49 c_47
    refine v_aload_n (q := 1) dX6_readWay_10 rfl rfl ?_
    refine vm_get hb 13 (Nat.le_of_ble_eq_true rfl) q1627 rfl dX6_readWay_11 rfl ?_
    refine v_i2l dX6_readWay_14 ?_
    refine v_ldc2 (v := (lN 8)) dX6_readWay_15 q1864 ?_
    refine v_ldc2 (v := (lN 11)) dX6_readWay_18 q1865 ?_
    refine v_callS q1734 q1735 q113 q1736 n_X6_within ⟨Nat.le_of_ble_eq_true rfl, Nat.le_of_ble_eq_true rfl⟩ [.long (((mi 13)).toInt64), .long (lN 8), .long (lN 11)] [] (met_X6_within hw) rfl (Nat.zero_le _) ⟨Nat.le_refl _, Nat.le_refl _⟩ dX6_readWay_21 rfl (v_ki (fun z_50 h1 hv => ?_))
    clear hw
    obtain ⟨e9, hw⟩ := hv
    refine v_heap e9 ?_
    clear e9
    obtain ⟨hw_53, hw_54⟩ := hw
    refine v_if_ne (tgt := 32) dX6_readWay_24 (by decide) (fun c_51 => ?_) (fun c_52 => ?_)
    · have hw := hw_53 c_51
      refine v_sub [1, 0] rfl ?_
      exact b_X6_readWay_32 hb (nI 87) mi ma hw
    · have hw := hw_54 c_52
      refine v_aload_n (q := 1) dX6_readWay_27 rfl rfl ?_
      refine v_iconst dX6_readWay_28 ic_2 ?_
      refine v_callV q1832 q1834 qs64 q113 q1835 (ci := 7) rfl (mH_obj hb) n_X6_fails ⟨Nat.le_of_ble_eq_true rfl, Nat.le_of_ble_eq_true rfl⟩ [.int (nI 2)] [] (met_X6_fails hb hw) rfl (Nat.zero_le _) ⟨Nat.le_refl _, Nat.le_refl _⟩ dX6_readWay_29 rfl (v_kv (fun h1 hv => ?_))
      clear hw
      obtain ⟨mi_55, rfl, hw⟩ := hv
      refine v_sub [1, 0] rfl ?_
      exact b_X6_readWay_32 hb (nI 87) mi_55 ma hw
theorem met_X6_readWay {post : (Nat → Int32) → (Nat → Nat → Int32) → Prop}   {mi : Nat → Int32} {ma : Nat → Nat → Int32} {ml : Nat → Nat → Int64} (hb : mOK b)  (hw : w_X6_readWay post  mi ma ml) : Mt l E yX6_readWay (ws_ yX6_readWay cX6_readWay 5 none) r_X6_readWay [va_rf (some (b 0))] (mH b mi ma ml) (vpv (fun (h' : AH) => ∃ (mi' : Nat → Int32) (ma' : Nat → Nat → Int32), h' = (mH b mi' ma' ml) ∧ post mi' ma')) := v_entry (by decide +kernel) (Nat.le_of_ble_eq_true rfl) rfl (fun _ => e_X6_readWay hb hw)
/-! X6_fault -/
abbrev r_X6_fault : Room := { frames := 0, cells := 0, slots := 0, locals := 0 }
theorem n_X6_fault : vdn yX6_fault 1 := ⟨by decide +kernel, by decide +kernel, by decide +kernel⟩
def w_X6_fault (post : (Int32) → (Nat → Int32) → Prop) (x1 : Int32) (mi : Nat → Int32) (ma : Nat → Nat → Int32) (ml : Nat → Nat → Int64) : Prop :=
 (∀ mi_1 : Nat → Int32, mi_1 = upd mi 0 (nI 0) → ((¬ x1 = 0 → ((¬ x1 = (nI 1) → (post (-1) mi_1)) ∧ (x1 = (nI 1) → (post (mi_1 20) mi_1)))) ∧ (x1 = 0 → (post (mi_1 19) mi_1))))
theorem e_X6_fault {post : (Int32) → (Nat → Int32) → Prop}   {x1 : Int32} {mi : Nat → Int32} {ma : Nat → Nat → Int32} {ml : Nat → Nat → Int64} (hb : mOK b)  (hw : w_X6_fault post  x1 mi ma ml) : VV l E X cX6_fault RX6 "fault" 2 r_X6_fault (some .int) (vpi (fun (r : Int32) (h' : AH) => ∃ (mi' : Nat → Int32), h' = (mH b mi' ma ml) ∧ post r mi')) (mH b mi ma ml) 0 0 0 [(0, va_rf (some (b 0))), (1, .int x1)] [] := by
  refine v_aload_n (q := 0) dX6_fault_0 rfl rfl ?_
  refine v_iconst dX6_fault_1 ic_0 ?_
  obtain ⟨mi_1, emi_1⟩ : ∃ z9 : Nat → Int32, z9 = upd mi 0 (nI 0) := ⟨_, rfl⟩
  replace hw := hw mi_1 emi_1
  refine vm_put hb 0 (Nat.le_of_ble_eq_true rfl) q1614 rfl rfl rfl dX6_fault_2 emi_1 rfl ?_
  refine v_iload_n (q := 1) dX6_fault_5 rfl rfl ?_
  obtain ⟨hw_4, hw_5⟩ := hw
  refine v_if_ne (tgt := 16) dX6_fault_6 (by decide) (fun c_2 => ?_) (fun c_3 => ?_)
  · have hw := hw_4 c_2
    refine v_iload_n (q := 1) dX6_fault_16 rfl rfl ?_
    refine v_iconst dX6_fault_17 ic_1 ?_
    obtain ⟨hw_8, hw_9⟩ := hw
    refine v_icmp_ne (tgt := 28) dX6_fault_18 (by decide) (fun c_6 => ?_) (fun c_7 => ?_)
    · have hw := hw_8 c_6
      refine v_iconst dX6_fault_28 ic_m1 ?_
      exact v_iret dX6_fault_29 rfl ⟨_, rfl, _, rfl, hw⟩
    · have hw := hw_9 c_7
      refine v_aload_n (q := 0) dX6_fault_21 rfl rfl ?_
      refine vm_get hb 20 (Nat.le_of_ble_eq_true rfl) q1634 rfl dX6_fault_22 rfl ?_
      refine v_goto (tgt := 29) dX6_fault_25 (by decide) ?_
      exact v_iret dX6_fault_29 rfl ⟨_, rfl, _, rfl, hw⟩
  · have hw := hw_5 c_3
    refine v_aload_n (q := 0) dX6_fault_9 rfl rfl ?_
    refine vm_get hb 19 (Nat.le_of_ble_eq_true rfl) q1633 rfl dX6_fault_10 rfl ?_
    refine v_goto (tgt := 29) dX6_fault_13 (by decide) ?_
    exact v_iret dX6_fault_29 rfl ⟨_, rfl, _, rfl, hw⟩
theorem met_X6_fault {post : (Int32) → (Nat → Int32) → Prop}   {x1 : Int32} {mi : Nat → Int32} {ma : Nat → Nat → Int32} {ml : Nat → Nat → Int64} (hb : mOK b)  (hw : w_X6_fault post  x1 mi ma ml) : Mt l E yX6_fault (ws_ yX6_fault cX6_fault 2 (some .int)) r_X6_fault [va_rf (some (b 0)), .int x1] (mH b mi ma ml) (vpi (fun (r : Int32) (h' : AH) => ∃ (mi' : Nat → Int32), h' = (mH b mi' ma ml) ∧ post r mi')) := v_entry (by decide +kernel) (Nat.le_of_ble_eq_true rfl) rfl (fun _ => e_X6_fault hb hw)
/-! X6_hasWord -/
abbrev r_X6_hasWord : Room := { frames := 0, cells := 0, slots := 0, locals := 0 }
theorem n_X6_hasWord : vdn yX6_hasWord 1 := ⟨by decide +kernel, by decide +kernel, by decide +kernel⟩
def w_X6_hasWord_31 (post : (Int32) → Prop) (k4 : (Int32) → (Int32) → Prop) (x1 : Int32) (mi : Nat → Int32) (ma : Nat → Nat → Int32) (ml : Nat → Nat → Int64) (x3 : Int32) (s0 : Int32) : Prop :=
 (∀ z_1 : Int32, z_1 = x3 + (nI 1) → (k4 s0 z_1))
def w_X6_hasWord_26 (post : (Int32) → Prop) (k4 : (Int32) → (Int32) → Prop) (x1 : Int32) (mi : Nat → Int32) (ma : Nat → Nat → Int32) (ml : Nat → Nat → Int64) (x3 : Int32) : Prop :=
 (w_X6_hasWord_31 post k4 x1 mi ma ml x3 (nI 1))
def w_X6_hasWord_4 (post : (Int32) → Prop) (x1 : Int32) (mi : Nat → Int32) (ma : Nat → Nat → Int32) (ml : Nat → Nat → Int64) : Nat → (Int32) → (Int32) → Prop
 | 0, _, _ => False
 | n0 + 1, x2, x3 =>
 (((mi 23) ≤ x3 → ((x2 = nI 0 ∨ x2 = nI 1) ∧ post x2)) ∧ (¬ (mi 23) ≤ x3 → ((¬ x2 = 0 → (w_X6_hasWord_26 post (fun (q0 : Int32) (q1 : Int32) => w_X6_hasWord_4 post x1 mi ma ml n0 q0 q1) x1 mi ma ml x3)) ∧ (x2 = 0 → (vp_in x3 8 ∧ ((¬ (ma 21 (x3).toNatClampNeg) = x1 → (w_X6_hasWord_31 post (fun (q0 : Int32) (q1 : Int32) => w_X6_hasWord_4 post x1 mi ma ml n0 q0 q1) x1 mi ma ml x3 (nI 0))) ∧ ((ma 21 (x3).toNatClampNeg) = x1 → (w_X6_hasWord_26 post (fun (q0 : Int32) (q1 : Int32) => w_X6_hasWord_4 post x1 mi ma ml n0 q0 q1) x1 mi ma ml x3))))))))
def w_X6_hasWord (post : (Int32) → Prop) (x1 : Int32) (mi : Nat → Int32) (ma : Nat → Nat → Int32) (ml : Nat → Nat → Int64) : Prop :=
 (∃ n1 : Nat, (w_X6_hasWord_4 post x1 mi ma ml n1 (nI 0) (nI 0)))
theorem b_X6_hasWord_31 {post : (Int32) → Prop}   {x1 : Int32} {mi : Nat → Int32} {ma : Nat → Nat → Int32} {ml : Nat → Nat → Int64} {k4 : (Int32) → (Int32) → Prop} (hb : mOK b)  (hk4 : ∀ (x2 : Int32) (x3 : Int32), k4 x2 x3 → VV l E X cX6_hasWord RX6 "hasWord" 4 r_X6_hasWord (some .boolean) (vpi (fun (r : Int32) (h' : AH) => h' = (mH b mi ma ml) ∧ post r)) (mH b mi ma ml) 0 0 4 [(0, va_rf (some (b 0))), (1, .int x1), (2, .int x2), (3, .int x3)] []) (x3 : Int32) (s0 : Int32) (hw : w_X6_hasWord_31 post k4 x1 mi ma ml x3 s0) : VV l E X cX6_hasWord RX6 "hasWord" 4 r_X6_hasWord (some .boolean) (vpi (fun (r : Int32) (h' : AH) => h' = (mH b mi ma ml) ∧ post r)) (mH b mi ma ml) 0 0 31 [(0, va_rf (some (b 0))), (1, .int x1), (3, .int x3)] [.int s0] := by
  refine v_istore_n (lv1 := [(2, .int s0), (0, va_rf (some (b 0))), (1, .int x1), (3, .int x3)]) dX6_hasWord_31 rfl (Nat.le_of_ble_eq_true rfl) rfl ?_
  obtain ⟨z_1, e_1⟩ : ∃ z9 : Int32, z9 = x3 + (nI 1) := ⟨_, rfl⟩
  replace hw := hw z_1 e_1
  refine v_iinc (q := 3) (v := z_1) (lv1 := [(3, .int z_1), (2, .int s0), (0, va_rf (some (b 0))), (1, .int x1)]) dX6_hasWord_32 rfl (by rw [e_1, ic_1]) (Nat.le_of_ble_eq_true rfl) rfl ?_
  refine v_goto (tgt := 4) dX6_hasWord_35 (by decide) ?_
  refine v_sub [2, 3, 1, 0] rfl ?_
  exact hk4 s0 z_1 hw
theorem b_X6_hasWord_26 {post : (Int32) → Prop}   {x1 : Int32} {mi : Nat → Int32} {ma : Nat → Nat → Int32} {ml : Nat → Nat → Int64} {k4 : (Int32) → (Int32) → Prop} (hb : mOK b)  (hk4 : ∀ (x2 : Int32) (x3 : Int32), k4 x2 x3 → VV l E X cX6_hasWord RX6 "hasWord" 4 r_X6_hasWord (some .boolean) (vpi (fun (r : Int32) (h' : AH) => h' = (mH b mi ma ml) ∧ post r)) (mH b mi ma ml) 0 0 4 [(0, va_rf (some (b 0))), (1, .int x1), (2, .int x2), (3, .int x3)] []) (x3 : Int32) (hw : w_X6_hasWord_26 post k4 x1 mi ma ml x3) : VV l E X cX6_hasWord RX6 "hasWord" 4 r_X6_hasWord (some .boolean) (vpi (fun (r : Int32) (h' : AH) => h' = (mH b mi ma ml) ∧ post r)) (mH b mi ma ml) 0 0 26 [(0, va_rf (some (b 0))), (1, .int x1), (3, .int x3)] [] := by
  refine v_iconst dX6_hasWord_26 ic_1 ?_
  refine v_goto (tgt := 31) dX6_hasWord_27 (by decide) ?_
  refine v_sub [0, 1, 2] rfl ?_
  exact b_X6_hasWord_31 hb hk4 x3 (nI 1) hw
theorem b_X6_hasWord_4 {post : (Int32) → Prop}   {x1 : Int32} {mi : Nat → Int32} {ma : Nat → Nat → Int32} {ml : Nat → Nat → Int64}  (hb : mOK b)   : ∀ (n0 : Nat) (x2 : Int32) (x3 : Int32), w_X6_hasWord_4 post x1 mi ma ml n0 x2 x3 → VV l E X cX6_hasWord RX6 "hasWord" 4 r_X6_hasWord (some .boolean) (vpi (fun (r : Int32) (h' : AH) => h' = (mH b mi ma ml) ∧ post r)) (mH b mi ma ml) 0 0 4 [(0, va_rf (some (b 0))), (1, .int x1), (2, .int x2), (3, .int x3)] [] := by
  intro n0
  induction n0 with
  | zero =>
    intro x2 x3 hw
    exact hw.elim
  | succ n0 ih =>
    intro x2 x3 hw
    refine v_iload_n (q := 3) dX6_hasWord_4 rfl rfl ?_
    refine v_aload_n (q := 0) dX6_hasWord_5 rfl rfl ?_
    refine vm_get hb 23 (Nat.le_of_ble_eq_true rfl) q1637 rfl dX6_hasWord_6 rfl ?_
    obtain ⟨hw_4, hw_5⟩ := hw
    refine v_icmp_ge (tgt := 38) dX6_hasWord_9 (by decide) (fun c_2 => ?_) (fun c_3 => ?_)
    · have hw := hw_4 c_2
      refine v_iload_n (q := 2) dX6_hasWord_38 rfl rfl ?_
      obtain ⟨hn_6, hw⟩ := hw
      exact v_zret dX6_hasWord_39 rfl (v_z1 hn_6).1 ⟨_, rfl, rfl, hw⟩
    · have hw := hw_5 c_3
      refine v_iload_n (q := 2) dX6_hasWord_12 rfl rfl ?_
      obtain ⟨hw_9, hw_10⟩ := hw
      refine v_if_ne (tgt := 26) dX6_hasWord_13 (by decide) (fun c_7 => ?_) (fun c_8 => ?_)
      · have hw := hw_9 c_7
        refine v_sub [0, 1, 3] rfl ?_
        exact b_X6_hasWord_26 hb (fun q0 q1 z => ih q0 q1 z) x3 hw
      · have hw := hw_10 c_8
        refine v_aload_n (q := 0) dX6_hasWord_16 rfl rfl ?_
        refine vm_get hb 21 (Nat.le_of_ble_eq_true rfl) q1635 rfl dX6_hasWord_17 rfl ?_
        refine v_iload_n (q := 3) dX6_hasWord_20 rfl rfl ?_
        obtain ⟨hi_11, hw⟩ := hw
        refine v_iald dX6_hasWord_21 (mH_ar21 hb) hi_11 ?_
        refine v_iload_n (q := 1) dX6_hasWord_22 rfl rfl ?_
        obtain ⟨hw_14, hw_15⟩ := hw
        refine v_icmp_ne (tgt := 30) dX6_hasWord_23 (by decide) (fun c_12 => ?_) (fun c_13 => ?_)
        · have hw := hw_14 c_12
          refine v_iconst dX6_hasWord_30 ic_0 ?_
          refine v_sub [0, 1, 3] rfl ?_
          exact b_X6_hasWord_31 hb (fun q0 q1 z => ih q0 q1 z) x3 (nI 0) hw
        · have hw := hw_15 c_13
          refine v_sub [0, 1, 3] rfl ?_
          exact b_X6_hasWord_26 hb (fun q0 q1 z => ih q0 q1 z) x3 hw
theorem e_X6_hasWord {post : (Int32) → Prop}   {x1 : Int32} {mi : Nat → Int32} {ma : Nat → Nat → Int32} {ml : Nat → Nat → Int64} (hb : mOK b)  (hw : w_X6_hasWord post  x1 mi ma ml) : VV l E X cX6_hasWord RX6 "hasWord" 4 r_X6_hasWord (some .boolean) (vpi (fun (r : Int32) (h' : AH) => h' = (mH b mi ma ml) ∧ post r)) (mH b mi ma ml) 0 0 0 [(0, va_rf (some (b 0))), (1, .int x1)] [] := by
  refine v_iconst dX6_hasWord_0 ic_0 ?_
  refine v_istore_n (lv1 := [(2, .int (nI 0)), (0, va_rf (some (b 0))), (1, .int x1)]) dX6_hasWord_1 rfl (Nat.le_of_ble_eq_true rfl) rfl ?_
  refine v_iconst dX6_hasWord_2 ic_0 ?_
  refine v_istore_n (lv1 := [(3, .int (nI 0)), (2, .int (nI 0)), (0, va_rf (some (b 0))), (1, .int x1)]) dX6_hasWord_3 rfl (Nat.le_of_ble_eq_true rfl) rfl ?_
  obtain ⟨n_16, hw⟩ := hw
  refine v_sub [2, 3, 1, 0] rfl ?_
  exact b_X6_hasWord_4 hb n_16 (nI 0) (nI 0) hw
theorem met_X6_hasWord {post : (Int32) → Prop}   {x1 : Int32} {mi : Nat → Int32} {ma : Nat → Nat → Int32} {ml : Nat → Nat → Int64} (hb : mOK b)  (hw : w_X6_hasWord post  x1 mi ma ml) : Mt l E yX6_hasWord (ws_ yX6_hasWord cX6_hasWord 4 (some .boolean)) r_X6_hasWord [va_rf (some (b 0)), .int x1] (mH b mi ma ml) (vpi (fun (r : Int32) (h' : AH) => h' = (mH b mi ma ml) ∧ post r)) := v_entry (by decide +kernel) (Nat.le_of_ble_eq_true rfl) rfl (fun _ => e_X6_hasWord hb hw)
/-! X6_holds -/
abbrev r_X6_holds : Room := { frames := 1, cells := 0, slots := 0, locals := 23 }
theorem n_X6_holds : vdn yX6_holds 2 := ⟨by decide +kernel, by decide +kernel, by decide +kernel⟩
def w_X6_holds_237 (post : (Int32) → (Nat → Nat → Int32) → Prop) (k13 : (Int32) → (Int32) → (Nat → Nat → Int32) → Prop) (x1 : Int32) (x2 : Int32) (mi : Nat → Int32) (ml : Nat → Nat → Int64) (x3 : Int32) (x4 : Int32) (ma : Nat → Nat → Int32) : Prop :=
 (∀ z_1 : Int32, z_1 = x4 + (nI 1) → (k13 x3 z_1 ma))
def w_X6_holds_89 (post : (Int32) → (Nat → Nat → Int32) → Prop) (k13 : (Int32) → (Int32) → (Nat → Nat → Int32) → Prop) (x1 : Int32) (x2 : Int32) (mi : Nat → Int32) (ml : Nat → Nat → Int64) (x3 : Int32) (x4 : Int32) (s0 : Int32) (s1 : Int32) (ma : Nat → Nat → Int32) : Prop :=
 (vp_in s1 260 ∧ ∀ ma_3 : Nat → Nat → Int32, ma_3 = mup ma 24 (s1).toNatClampNeg (vp_nar .boolean s0) → (w_X6_holds_237 post k13 x1 x2 mi ml x3 x4 ma_3))
def w_X6_holds_174 (post : (Int32) → (Nat → Nat → Int32) → Prop) (k13 : (Int32) → (Int32) → (Nat → Nat → Int32) → Prop) (x1 : Int32) (x2 : Int32) (mi : Nat → Int32) (ml : Nat → Nat → Int64) (x3 : Int32) (x4 : Int32) (s0 : Int32) (s1 : Int32) (ma : Nat → Nat → Int32) : Prop :=
 (vp_in s1 260 ∧ ∀ ma_5 : Nat → Nat → Int32, ma_5 = mup ma 24 (s1).toNatClampNeg (vp_nar .boolean s0) → (w_X6_holds_237 post k13 x1 x2 mi ml x3 x4 ma_5))
def w_X6_holds_145 (post : (Int32) → (Nat → Nat → Int32) → Prop) (k13 : (Int32) → (Int32) → (Nat → Nat → Int32) → Prop) (x1 : Int32) (x2 : Int32) (mi : Nat → Int32) (ml : Nat → Nat → Int64) (x3 : Int32) (x4 : Int32) (s0 : Int32) (ma : Nat → Nat → Int32) : Prop :=
 (w_X6_holds_174 post k13 x1 x2 mi ml x3 x4 (nI 0) s0 ma)
def w_X6_holds_169 (post : (Int32) → (Nat → Nat → Int32) → Prop) (k13 : (Int32) → (Int32) → (Nat → Nat → Int32) → Prop) (x1 : Int32) (x2 : Int32) (mi : Nat → Int32) (ml : Nat → Nat → Int64) (x3 : Int32) (x4 : Int32) (s0 : Int32) (ma : Nat → Nat → Int32) : Prop :=
 (w_X6_holds_174 post k13 x1 x2 mi ml x3 x4 (nI 1) s0 ma)
def w_X6_holds_105 (post : (Int32) → (Nat → Nat → Int32) → Prop) (k13 : (Int32) → (Int32) → (Nat → Nat → Int32) → Prop) (x1 : Int32) (x2 : Int32) (mi : Nat → Int32) (ml : Nat → Nat → Int64) (x3 : Int32) (x4 : Int32) (x5 : Int32) (ma : Nat → Nat → Int32) : Prop :=
 (∀ z_6 : Int32, z_6 = x3 + (-1) → ((¬ x5 = (nI 3) → (vp_in (z_6 - (nI 1)) 260 ∧ ((¬ (ma 24 ((z_6 - (nI 1))).toNatClampNeg) = 0 → (w_X6_holds_169 post k13 x1 x2 mi ml z_6 x4 (z_6 - (nI 1)) ma)) ∧ ((ma 24 ((z_6 - (nI 1))).toNatClampNeg) = 0 → (vp_in z_6 260 ∧ (((ma 24 (z_6).toNatClampNeg) = 0 → (w_X6_holds_174 post k13 x1 x2 mi ml z_6 x4 (nI 0) (z_6 - (nI 1)) ma)) ∧ (¬ (ma 24 (z_6).toNatClampNeg) = 0 → (w_X6_holds_169 post k13 x1 x2 mi ml z_6 x4 (z_6 - (nI 1)) ma)))))))) ∧ (x5 = (nI 3) → (vp_in (z_6 - (nI 1)) 260 ∧ (((ma 24 ((z_6 - (nI 1))).toNatClampNeg) = 0 → (w_X6_holds_145 post k13 x1 x2 mi ml z_6 x4 (z_6 - (nI 1)) ma)) ∧ (¬ (ma 24 ((z_6 - (nI 1))).toNatClampNeg) = 0 → (vp_in z_6 260 ∧ (((ma 24 (z_6).toNatClampNeg) = 0 → (w_X6_holds_145 post k13 x1 x2 mi ml z_6 x4 (z_6 - (nI 1)) ma)) ∧ (¬ (ma 24 (z_6).toNatClampNeg) = 0 → (w_X6_holds_174 post k13 x1 x2 mi ml z_6 x4 (nI 1) (z_6 - (nI 1)) ma))))))))))
def w_X6_holds_233 (post : (Int32) → (Nat → Nat → Int32) → Prop) (k13 : (Int32) → (Int32) → (Nat → Nat → Int32) → Prop) (x1 : Int32) (x2 : Int32) (mi : Nat → Int32) (ml : Nat → Nat → Int64) (x3 : Int32) (x4 : Int32) (s0 : Int32) (s1 : Int32) (ma : Nat → Nat → Int32) : Prop :=
 (vp_in s1 260 ∧ ∀ ma_32 : Nat → Nat → Int32, ma_32 = mup ma 24 (s1).toNatClampNeg (vp_nar .boolean s0) → (∀ z_33 : Int32, z_33 = x3 + (nI 1) → (w_X6_holds_237 post k13 x1 x2 mi ml z_33 x4 ma_32)))
def w_X6_holds_256 (post : (Int32) → (Nat → Nat → Int32) → Prop) (x1 : Int32) (x2 : Int32) (mi : Nat → Int32) (ml : Nat → Nat → Int64) (ma : Nat → Nat → Int32) : Prop :=
 (post (nI 1) ma)
def w_X6_holds_13 (post : (Int32) → (Nat → Nat → Int32) → Prop) (x1 : Int32) (x2 : Int32) (mi : Nat → Int32) (ml : Nat → Nat → Int64) : Nat → (Int32) → (Int32) → (Nat → Nat → Int32) → Prop
 | 0, _, _, _ => False
 | n0 + 1, x3, x4, ma =>
 (vp_in ((nI 133) + x1) 2580 ∧ (((ma 6 (((nI 133) + x1)).toNatClampNeg) ≤ x4 → ((x3 = 0 → (w_X6_holds_256 post x1 x2 mi ml ma)) ∧ (¬ x3 = 0 → (vp_in (nI 0) 260 ∧ (((ma 24 ((nI 0)).toNatClampNeg) = 0 → (post (nI 0) ma)) ∧ (¬ (ma 24 ((nI 0)).toNatClampNeg) = 0 → (w_X6_holds_256 post x1 x2 mi ml ma))))))) ∧ (¬ (ma 6 (((nI 133) + x1)).toNatClampNeg) ≤ x4 → (vp_in ((nI 145) + ((nI 2) * x4)) 2580 ∧ (∀ z_49 : Int32, z_49 = (ma 6 (((nI 145) + ((nI 2) * x4))).toNatClampNeg) → (vp_in (((nI 145) + ((nI 2) * x4)) + (nI 1)) 2580 ∧ (∀ z_51 : Int32, z_51 = (ma 6 ((((nI 145) + ((nI 2) * x4)) + (nI 1))).toNatClampNeg) → ((¬ z_49 = (nI 2) → ((z_49 = (nI 3) → (w_X6_holds_105 post (fun (q0 : Int32) (q1 : Int32) (q2 : Nat → Nat → Int32) => w_X6_holds_13 post x1 x2 mi ml n0 q0 q1 q2) x1 x2 mi ml x3 x4 z_49 ma)) ∧ (¬ z_49 = (nI 3) → ((¬ z_49 = (nI 4) → ((¬ z_49 = (nI 5) → ((¬ z_49 = (nI 6) → ((¬ z_51 = x2 → (w_X6_holds_233 post (fun (q0 : Int32) (q1 : Int32) (q2 : Nat → Nat → Int32) => w_X6_holds_13 post x1 x2 mi ml n0 q0 q1 q2) x1 x2 mi ml x3 x4 (nI 0) x3 ma)) ∧ (z_51 = x2 → (w_X6_holds_233 post (fun (q0 : Int32) (q1 : Int32) (q2 : Nat → Nat → Int32) => w_X6_holds_13 post x1 x2 mi ml n0 q0 q1 q2) x1 x2 mi ml x3 x4 (nI 1) x3 ma)))) ∧ (z_49 = (nI 6) → (((mi 23) < z_51 → (w_X6_holds_233 post (fun (q0 : Int32) (q1 : Int32) (q2 : Nat → Nat → Int32) => w_X6_holds_13 post x1 x2 mi ml n0 q0 q1 q2) x1 x2 mi ml x3 x4 (nI 0) x3 ma)) ∧ (¬ (mi 23) < z_51 → (w_X6_holds_233 post (fun (q0 : Int32) (q1 : Int32) (q2 : Nat → Nat → Int32) => w_X6_holds_13 post x1 x2 mi ml n0 q0 q1 q2) x1 x2 mi ml x3 x4 (nI 1) x3 ma)))))) ∧ (z_49 = (nI 5) → (w_X6_hasWord (fun (z_80 : Int32) => (w_X6_holds_233 post (fun (q0 : Int32) (q1 : Int32) (q2 : Nat → Nat → Int32) => w_X6_holds_13 post x1 x2 mi ml n0 q0 q1 q2) x1 x2 mi ml x3 x4 z_80 x3 ma)) z_51 mi ma ml)))) ∧ (z_49 = (nI 4) → (w_X6_holds_105 post (fun (q0 : Int32) (q1 : Int32) (q2 : Nat → Nat → Int32) => w_X6_holds_13 post x1 x2 mi ml n0 q0 q1 q2) x1 x2 mi ml x3 x4 z_49 ma)))))) ∧ (z_49 = (nI 2) → (vp_in (x3 - (nI 1)) 260 ∧ ((¬ (ma 24 ((x3 - (nI 1))).toNatClampNeg) = 0 → (w_X6_holds_89 post (fun (q0 : Int32) (q1 : Int32) (q2 : Nat → Nat → Int32) => w_X6_holds_13 post x1 x2 mi ml n0 q0 q1 q2) x1 x2 mi ml x3 x4 (nI 0) (x3 - (nI 1)) ma)) ∧ ((ma 24 ((x3 - (nI 1))).toNatClampNeg) = 0 → (w_X6_holds_89 post (fun (q0 : Int32) (q1 : Int32) (q2 : Nat → Nat → Int32) => w_X6_holds_13 post x1 x2 mi ml n0 q0 q1 q2) x1 x2 mi ml x3 x4 (nI 1) (x3 - (nI 1)) ma)))))))))))))
def w_X6_holds (post : (Int32) → (Nat → Nat → Int32) → Prop) (x1 : Int32) (x2 : Int32) (mi : Nat → Int32) (ma : Nat → Nat → Int32) (ml : Nat → Nat → Int64) : Prop :=
 (vp_in ((nI 121) + x1) 2580 ∧ (∀ z_87 : Int32, z_87 = (ma 6 (((nI 121) + x1)).toNatClampNeg) → (∃ n1 : Nat, (w_X6_holds_13 post x1 x2 mi ml n1 (nI 0) z_87 ma))))
theorem b_X6_holds_237 {post : (Int32) → (Nat → Nat → Int32) → Prop}   {x1 : Int32} {x2 : Int32} {mi : Nat → Int32} {ml : Nat → Nat → Int64} {k13 : (Int32) → (Int32) → (Nat → Nat → Int32) → Prop} (hb : mOK b)  (hk13 : ∀ (x3 : Int32) (x4 : Int32) (ma : Nat → Nat → Int32), k13 x3 x4 ma → VV l E X cX6_holds RX6 "holds" 7 r_X6_holds (some .boolean) (vpi (fun (r : Int32) (h' : AH) => ∃ (ma' : Nat → Nat → Int32), h' = (mH b mi ma' ml) ∧ post r ma')) (mH b mi ma ml) 0 0 13 [(0, va_rf (some (b 0))), (1, .int x1), (2, .int x2), (3, .int x3), (4, .int x4)] []) (x3 : Int32) (x4 : Int32) (ma : Nat → Nat → Int32) (hw : w_X6_holds_237 post k13 x1 x2 mi ml x3 x4 ma) : VV l E X cX6_holds RX6 "holds" 7 r_X6_holds (some .boolean) (vpi (fun (r : Int32) (h' : AH) => ∃ (ma' : Nat → Nat → Int32), h' = (mH b mi ma' ml) ∧ post r ma')) (mH b mi ma ml) 0 0 237 [(0, va_rf (some (b 0))), (1, .int x1), (2, .int x2), (3, .int x3), (4, .int x4)] [] := by
  obtain ⟨z_1, e_1⟩ : ∃ z9 : Int32, z9 = x4 + (nI 1) := ⟨_, rfl⟩
  replace hw := hw z_1 e_1
  refine v_iinc (q := 4) (v := z_1) (lv1 := [(4, .int z_1), (0, va_rf (some (b 0))), (1, .int x1), (2, .int x2), (3, .int x3)]) dX6_holds_237 rfl (by rw [e_1, ic_1]) (Nat.le_of_ble_eq_true rfl) rfl ?_
  refine v_goto (tgt := 13) dX6_holds_240 (by decide) ?_
  refine v_sub [1, 2, 3, 4, 0] rfl ?_
  exact hk13 x3 z_1 ma hw
theorem b_X6_holds_89 {post : (Int32) → (Nat → Nat → Int32) → Prop}   {x1 : Int32} {x2 : Int32} {mi : Nat → Int32} {ml : Nat → Nat → Int64} {k13 : (Int32) → (Int32) → (Nat → Nat → Int32) → Prop} (hb : mOK b)  (hk13 : ∀ (x3 : Int32) (x4 : Int32) (ma : Nat → Nat → Int32), k13 x3 x4 ma → VV l E X cX6_holds RX6 "holds" 7 r_X6_holds (some .boolean) (vpi (fun (r : Int32) (h' : AH) => ∃ (ma' : Nat → Nat → Int32), h' = (mH b mi ma' ml) ∧ post r ma')) (mH b mi ma ml) 0 0 13 [(0, va_rf (some (b 0))), (1, .int x1), (2, .int x2), (3, .int x3), (4, .int x4)] []) (x3 : Int32) (x4 : Int32) (s0 : Int32) (s1 : Int32) (ma : Nat → Nat → Int32) (hw : w_X6_holds_89 post k13 x1 x2 mi ml x3 x4 s0 s1 ma) : VV l E X cX6_holds RX6 "holds" 7 r_X6_holds (some .boolean) (vpi (fun (r : Int32) (h' : AH) => ∃ (ma' : Nat → Nat → Int32), h' = (mH b mi ma' ml) ∧ post r ma')) (mH b mi ma ml) 0 0 89 [(0, va_rf (some (b 0))), (1, .int x1), (2, .int x2), (3, .int x3), (4, .int x4)] [.int s0, .int s1, va_rf (some (b 24))] := by
  obtain ⟨hi_2, hw⟩ := hw
  obtain ⟨ma_3, ema_3⟩ : ∃ z9 : Nat → Nat → Int32, z9 = mup ma 24 (s1).toNatClampNeg (vp_nar .boolean s0) := ⟨_, rfl⟩
  replace hw := hw ma_3 ema_3
  refine v_zast dX6_holds_89 (mH_ar24 hb) hi_2 ?_
  refine v_heap (h' := mH b mi ma_3 ml) (by rw [ema_3]; exact mH_st24 hb) ?_
  refine v_goto (tgt := 237) dX6_holds_90 (by decide) ?_
  refine v_sub [0, 1, 2, 3, 4] rfl ?_
  exact b_X6_holds_237 hb hk13 x3 x4 ma_3 hw
theorem b_X6_holds_174 {post : (Int32) → (Nat → Nat → Int32) → Prop}   {x1 : Int32} {x2 : Int32} {mi : Nat → Int32} {ml : Nat → Nat → Int64} {k13 : (Int32) → (Int32) → (Nat → Nat → Int32) → Prop} (hb : mOK b)  (hk13 : ∀ (x3 : Int32) (x4 : Int32) (ma : Nat → Nat → Int32), k13 x3 x4 ma → VV l E X cX6_holds RX6 "holds" 7 r_X6_holds (some .boolean) (vpi (fun (r : Int32) (h' : AH) => ∃ (ma' : Nat → Nat → Int32), h' = (mH b mi ma' ml) ∧ post r ma')) (mH b mi ma ml) 0 0 13 [(0, va_rf (some (b 0))), (1, .int x1), (2, .int x2), (3, .int x3), (4, .int x4)] []) (x3 : Int32) (x4 : Int32) (s0 : Int32) (s1 : Int32) (ma : Nat → Nat → Int32) (hw : w_X6_holds_174 post k13 x1 x2 mi ml x3 x4 s0 s1 ma) : VV l E X cX6_holds RX6 "holds" 7 r_X6_holds (some .boolean) (vpi (fun (r : Int32) (h' : AH) => ∃ (ma' : Nat → Nat → Int32), h' = (mH b mi ma' ml) ∧ post r ma')) (mH b mi ma ml) 0 0 174 [(0, va_rf (some (b 0))), (1, .int x1), (2, .int x2), (3, .int x3), (4, .int x4)] [.int s0, .int s1, va_rf (some (b 24))] := by
  obtain ⟨hi_4, hw⟩ := hw
  obtain ⟨ma_5, ema_5⟩ : ∃ z9 : Nat → Nat → Int32, z9 = mup ma 24 (s1).toNatClampNeg (vp_nar .boolean s0) := ⟨_, rfl⟩
  replace hw := hw ma_5 ema_5
  refine v_zast dX6_holds_174 (mH_ar24 hb) hi_4 ?_
  refine v_heap (h' := mH b mi ma_5 ml) (by rw [ema_5]; exact mH_st24 hb) ?_
  refine v_goto (tgt := 237) dX6_holds_175 (by decide) ?_
  refine v_sub [0, 1, 2, 3, 4] rfl ?_
  exact b_X6_holds_237 hb hk13 x3 x4 ma_5 hw
theorem b_X6_holds_145 {post : (Int32) → (Nat → Nat → Int32) → Prop}   {x1 : Int32} {x2 : Int32} {mi : Nat → Int32} {ml : Nat → Nat → Int64} {k13 : (Int32) → (Int32) → (Nat → Nat → Int32) → Prop} (hb : mOK b)  (hk13 : ∀ (x3 : Int32) (x4 : Int32) (ma : Nat → Nat → Int32), k13 x3 x4 ma → VV l E X cX6_holds RX6 "holds" 7 r_X6_holds (some .boolean) (vpi (fun (r : Int32) (h' : AH) => ∃ (ma' : Nat → Nat → Int32), h' = (mH b mi ma' ml) ∧ post r ma')) (mH b mi ma ml) 0 0 13 [(0, va_rf (some (b 0))), (1, .int x1), (2, .int x2), (3, .int x3), (4, .int x4)] []) (x3 : Int32) (x4 : Int32) (s0 : Int32) (ma : Nat → Nat → Int32) (hw : w_X6_holds_145 post k13 x1 x2 mi ml x3 x4 s0 ma) : VV l E X cX6_holds RX6 "holds" 7 r_X6_holds (some .boolean) (vpi (fun (r : Int32) (h' : AH) => ∃ (ma' : Nat → Nat → Int32), h' = (mH b mi ma' ml) ∧ post r ma')) (mH b mi ma ml) 0 0 145 [(0, va_rf (some (b 0))), (1, .int x1), (2, .int x2), (3, .int x3), (4, .int x4)] [.int s0, va_rf (some (b 24))] := by
  refine v_iconst dX6_holds_145 ic_0 ?_
  refine v_goto (tgt := 174) dX6_holds_146 (by decide) ?_
  refine v_sub [0, 1, 2, 3, 4] rfl ?_
  exact b_X6_holds_174 hb hk13 x3 x4 (nI 0) s0 ma hw
theorem b_X6_holds_169 {post : (Int32) → (Nat → Nat → Int32) → Prop}   {x1 : Int32} {x2 : Int32} {mi : Nat → Int32} {ml : Nat → Nat → Int64} {k13 : (Int32) → (Int32) → (Nat → Nat → Int32) → Prop} (hb : mOK b)  (hk13 : ∀ (x3 : Int32) (x4 : Int32) (ma : Nat → Nat → Int32), k13 x3 x4 ma → VV l E X cX6_holds RX6 "holds" 7 r_X6_holds (some .boolean) (vpi (fun (r : Int32) (h' : AH) => ∃ (ma' : Nat → Nat → Int32), h' = (mH b mi ma' ml) ∧ post r ma')) (mH b mi ma ml) 0 0 13 [(0, va_rf (some (b 0))), (1, .int x1), (2, .int x2), (3, .int x3), (4, .int x4)] []) (x3 : Int32) (x4 : Int32) (s0 : Int32) (ma : Nat → Nat → Int32) (hw : w_X6_holds_169 post k13 x1 x2 mi ml x3 x4 s0 ma) : VV l E X cX6_holds RX6 "holds" 7 r_X6_holds (some .boolean) (vpi (fun (r : Int32) (h' : AH) => ∃ (ma' : Nat → Nat → Int32), h' = (mH b mi ma' ml) ∧ post r ma')) (mH b mi ma ml) 0 0 169 [(0, va_rf (some (b 0))), (1, .int x1), (2, .int x2), (3, .int x3), (4, .int x4)] [.int s0, va_rf (some (b 24))] := by
  refine v_iconst dX6_holds_169 ic_1 ?_
  refine v_goto (tgt := 174) dX6_holds_170 (by decide) ?_
  refine v_sub [0, 1, 2, 3, 4] rfl ?_
  exact b_X6_holds_174 hb hk13 x3 x4 (nI 1) s0 ma hw
theorem b_X6_holds_105 {post : (Int32) → (Nat → Nat → Int32) → Prop}   {x1 : Int32} {x2 : Int32} {mi : Nat → Int32} {ml : Nat → Nat → Int64} {k13 : (Int32) → (Int32) → (Nat → Nat → Int32) → Prop} (hb : mOK b)  (hk13 : ∀ (x3 : Int32) (x4 : Int32) (ma : Nat → Nat → Int32), k13 x3 x4 ma → VV l E X cX6_holds RX6 "holds" 7 r_X6_holds (some .boolean) (vpi (fun (r : Int32) (h' : AH) => ∃ (ma' : Nat → Nat → Int32), h' = (mH b mi ma' ml) ∧ post r ma')) (mH b mi ma ml) 0 0 13 [(0, va_rf (some (b 0))), (1, .int x1), (2, .int x2), (3, .int x3), (4, .int x4)] []) (x3 : Int32) (x4 : Int32) (x5 : Int32) (ma : Nat → Nat → Int32) (hw : w_X6_holds_105 post k13 x1 x2 mi ml x3 x4 x5 ma) : VV l E X cX6_holds RX6 "holds" 7 r_X6_holds (some .boolean) (vpi (fun (r : Int32) (h' : AH) => ∃ (ma' : Nat → Nat → Int32), h' = (mH b mi ma' ml) ∧ post r ma')) (mH b mi ma ml) 0 0 105 [(0, va_rf (some (b 0))), (1, .int x1), (2, .int x2), (3, .int x3), (4, .int x4), (5, .int x5)] [] := by
  obtain ⟨z_6, e_6⟩ : ∃ z9 : Int32, z9 = x3 + (-1) := ⟨_, rfl⟩
  replace hw := hw z_6 e_6
  refine v_iinc (q := 3) (v := z_6) (lv1 := [(3, .int z_6), (0, va_rf (some (b 0))), (1, .int x1), (2, .int x2), (4, .int x4), (5, .int x5)]) dX6_holds_105 rfl (by rw [e_6, ic_m1]) (Nat.le_of_ble_eq_true rfl) rfl ?_
  refine v_aload_n (q := 1) dX6_holds_108 rfl rfl ?_
  refine vm_get hb 24 (Nat.le_of_ble_eq_true rfl) q1638 rfl dX6_holds_109 rfl ?_
  refine v_iload_n (q := 0) dX6_holds_112 rfl rfl ?_
  refine v_iconst dX6_holds_113 ic_1 ?_
  refine v_isub dX6_holds_114 ?_
  refine v_iload (q := 5) dX6_holds_115 rfl ?_
  refine v_iconst dX6_holds_117 ic_3 ?_
  obtain ⟨hw_9, hw_10⟩ := hw
  refine v_icmp_ne (tgt := 149) dX6_holds_118 (by decide) (fun c_7 => ?_) (fun c_8 => ?_)
  · have hw := hw_9 c_7
    refine v_aload_n (q := 1) dX6_holds_149 rfl rfl ?_
    refine vm_get hb 24 (Nat.le_of_ble_eq_true rfl) q1638 rfl dX6_holds_150 rfl ?_
    refine v_iload_n (q := 0) dX6_holds_153 rfl rfl ?_
    refine v_iconst dX6_holds_154 ic_1 ?_
    refine v_isub dX6_holds_155 ?_
    obtain ⟨hi_11, hw⟩ := hw
    refine v_zald dX6_holds_156 (mH_ar24 hb) hi_11 ?_
    obtain ⟨hw_14, hw_15⟩ := hw
    refine v_if_ne (tgt := 169) dX6_holds_157 (by decide) (fun c_12 => ?_) (fun c_13 => ?_)
    · have hw := hw_14 c_12
      refine v_sub [1, 2, 3, 0, 4] rfl ?_
      exact b_X6_holds_169 hb hk13 z_6 x4 (z_6 - (nI 1)) ma hw
    · have hw := hw_15 c_13
      refine v_aload_n (q := 1) dX6_holds_160 rfl rfl ?_
      refine vm_get hb 24 (Nat.le_of_ble_eq_true rfl) q1638 rfl dX6_holds_161 rfl ?_
      refine v_iload_n (q := 0) dX6_holds_164 rfl rfl ?_
      obtain ⟨hi_16, hw⟩ := hw
      refine v_zald dX6_holds_165 (mH_ar24 hb) hi_16 ?_
      obtain ⟨hw_19, hw_20⟩ := hw
      refine v_if_eq (tgt := 173) dX6_holds_166 (by decide) (fun c_17 => ?_) (fun c_18 => ?_)
      · have hw := hw_19 c_17
        refine v_iconst dX6_holds_173 ic_0 ?_
        refine v_sub [1, 2, 3, 0, 4] rfl ?_
        exact b_X6_holds_174 hb hk13 z_6 x4 (nI 0) (z_6 - (nI 1)) ma hw
      · have hw := hw_20 c_18
        refine v_sub [1, 2, 3, 0, 4] rfl ?_
        exact b_X6_holds_169 hb hk13 z_6 x4 (z_6 - (nI 1)) ma hw
  · have hw := hw_10 c_8
    refine v_aload_n (q := 1) dX6_holds_121 rfl rfl ?_
    refine vm_get hb 24 (Nat.le_of_ble_eq_true rfl) q1638 rfl dX6_holds_122 rfl ?_
    refine v_iload_n (q := 0) dX6_holds_125 rfl rfl ?_
    refine v_iconst dX6_holds_126 ic_1 ?_
    refine v_isub dX6_holds_127 ?_
    obtain ⟨hi_21, hw⟩ := hw
    refine v_zald dX6_holds_128 (mH_ar24 hb) hi_21 ?_
    obtain ⟨hw_24, hw_25⟩ := hw
    refine v_if_eq (tgt := 145) dX6_holds_129 (by decide) (fun c_22 => ?_) (fun c_23 => ?_)
    · have hw := hw_24 c_22
      refine v_sub [1, 2, 3, 0, 4] rfl ?_
      exact b_X6_holds_145 hb hk13 z_6 x4 (z_6 - (nI 1)) ma hw
    · have hw := hw_25 c_23
      refine v_aload_n (q := 1) dX6_holds_132 rfl rfl ?_
      refine vm_get hb 24 (Nat.le_of_ble_eq_true rfl) q1638 rfl dX6_holds_133 rfl ?_
      refine v_iload_n (q := 0) dX6_holds_136 rfl rfl ?_
      obtain ⟨hi_26, hw⟩ := hw
      refine v_zald dX6_holds_137 (mH_ar24 hb) hi_26 ?_
      obtain ⟨hw_29, hw_30⟩ := hw
      refine v_if_eq (tgt := 145) dX6_holds_138 (by decide) (fun c_27 => ?_) (fun c_28 => ?_)
      · have hw := hw_29 c_27
        refine v_sub [1, 2, 3, 0, 4] rfl ?_
        exact b_X6_holds_145 hb hk13 z_6 x4 (z_6 - (nI 1)) ma hw
      · have hw := hw_30 c_28
        refine v_iconst dX6_holds_141 ic_1 ?_
        refine v_goto (tgt := 174) dX6_holds_142 (by decide) ?_
        refine v_sub [1, 2, 3, 0, 4] rfl ?_
        exact b_X6_holds_174 hb hk13 z_6 x4 (nI 1) (z_6 - (nI 1)) ma hw
theorem b_X6_holds_233 {post : (Int32) → (Nat → Nat → Int32) → Prop}   {x1 : Int32} {x2 : Int32} {mi : Nat → Int32} {ml : Nat → Nat → Int64} {k13 : (Int32) → (Int32) → (Nat → Nat → Int32) → Prop} (hb : mOK b)  (hk13 : ∀ (x3 : Int32) (x4 : Int32) (ma : Nat → Nat → Int32), k13 x3 x4 ma → VV l E X cX6_holds RX6 "holds" 7 r_X6_holds (some .boolean) (vpi (fun (r : Int32) (h' : AH) => ∃ (ma' : Nat → Nat → Int32), h' = (mH b mi ma' ml) ∧ post r ma')) (mH b mi ma ml) 0 0 13 [(0, va_rf (some (b 0))), (1, .int x1), (2, .int x2), (3, .int x3), (4, .int x4)] []) (x3 : Int32) (x4 : Int32) (s0 : Int32) (s1 : Int32) (ma : Nat → Nat → Int32) (hw : w_X6_holds_233 post k13 x1 x2 mi ml x3 x4 s0 s1 ma) : VV l E X cX6_holds RX6 "holds" 7 r_X6_holds (some .boolean) (vpi (fun (r : Int32) (h' : AH) => ∃ (ma' : Nat → Nat → Int32), h' = (mH b mi ma' ml) ∧ post r ma')) (mH b mi ma ml) 0 0 233 [(0, va_rf (some (b 0))), (1, .int x1), (2, .int x2), (3, .int x3), (4, .int x4)] [.int s0, .int s1, va_rf (some (b 24))] := by
  obtain ⟨hi_31, hw⟩ := hw
  obtain ⟨ma_32, ema_32⟩ : ∃ z9 : Nat → Nat → Int32, z9 = mup ma 24 (s1).toNatClampNeg (vp_nar .boolean s0) := ⟨_, rfl⟩
  replace hw := hw ma_32 ema_32
  refine v_zast dX6_holds_233 (mH_ar24 hb) hi_31 ?_
  refine v_heap (h' := mH b mi ma_32 ml) (by rw [ema_32]; exact mH_st24 hb) ?_
  obtain ⟨z_33, e_33⟩ : ∃ z9 : Int32, z9 = x3 + (nI 1) := ⟨_, rfl⟩
  replace hw := hw z_33 e_33
  refine v_iinc (q := 3) (v := z_33) (lv1 := [(3, .int z_33), (0, va_rf (some (b 0))), (1, .int x1), (2, .int x2), (4, .int x4)]) dX6_holds_234 rfl (by rw [e_33, ic_1]) (Nat.le_of_ble_eq_true rfl) rfl ?_
  refine v_sub [1, 2, 3, 0, 4] rfl ?_
  exact b_X6_holds_237 hb hk13 z_33 x4 ma_32 hw
theorem b_X6_holds_256 {post : (Int32) → (Nat → Nat → Int32) → Prop}   {x1 : Int32} {x2 : Int32} {mi : Nat → Int32} {ml : Nat → Nat → Int64}  (hb : mOK b)   (ma : Nat → Nat → Int32) (hw : w_X6_holds_256 post x1 x2 mi ml ma) : VV l E X cX6_holds RX6 "holds" 7 r_X6_holds (some .boolean) (vpi (fun (r : Int32) (h' : AH) => ∃ (ma' : Nat → Nat → Int32), h' = (mH b mi ma' ml) ∧ post r ma')) (mH b mi ma ml) 0 0 256 [(0, va_rf (some (b 0))), (1, .int x1), (2, .int x2)] [] := by
  refine v_iconst dX6_holds_256 ic_1 ?_
  refine v_goto (tgt := 261) dX6_holds_257 (by decide) ?_
  exact v_zret dX6_holds_261 rfl rfl ⟨_, rfl, _, rfl, hw⟩
theorem b_X6_holds_13 {post : (Int32) → (Nat → Nat → Int32) → Prop}   {x1 : Int32} {x2 : Int32} {mi : Nat → Int32} {ml : Nat → Nat → Int64}  (hb : mOK b)   : ∀ (n0 : Nat) (x3 : Int32) (x4 : Int32) (ma : Nat → Nat → Int32), w_X6_holds_13 post x1 x2 mi ml n0 x3 x4 ma → VV l E X cX6_holds RX6 "holds" 7 r_X6_holds (some .boolean) (vpi (fun (r : Int32) (h' : AH) => ∃ (ma' : Nat → Nat → Int32), h' = (mH b mi ma' ml) ∧ post r ma')) (mH b mi ma ml) 0 0 13 [(0, va_rf (some (b 0))), (1, .int x1), (2, .int x2), (3, .int x3), (4, .int x4)] [] := by
  intro n0
  induction n0 with
  | zero =>
    intro x3 x4 ma hw
    exact hw.elim
  | succ n0 ih =>
    intro x3 x4 ma hw
    refine v_iload (q := 4) dX6_holds_13 rfl ?_
    refine v_aload_n (q := 0) dX6_holds_15 rfl rfl ?_
    refine vm_get hb 6 (Nat.le_of_ble_eq_true rfl) q1620 rfl dX6_holds_16 rfl ?_
    refine v_sipush dX6_holds_19 sp_133 ?_
    refine v_iload_n (q := 1) dX6_holds_22 rfl rfl ?_
    refine v_iadd dX6_holds_23 ?_
    obtain ⟨hi_34, hw⟩ := hw
    refine v_iald dX6_holds_24 (mH_ar6 hb) hi_34 ?_
    obtain ⟨hw_37, hw_38⟩ := hw
    refine v_icmp_ge (tgt := 243) dX6_holds_25 (by decide) (fun c_35 => ?_) (fun c_36 => ?_)
    · have hw := hw_37 c_35
      refine v_iload_n (q := 3) dX6_holds_243 rfl rfl ?_
      obtain ⟨hw_41, hw_42⟩ := hw
      refine v_if_eq (tgt := 256) dX6_holds_244 (by decide) (fun c_39 => ?_) (fun c_40 => ?_)
      · have hw := hw_41 c_39
        refine v_sub [0, 1, 2] rfl ?_
        exact b_X6_holds_256 hb ma hw
      · have hw := hw_42 c_40
        refine v_aload_n (q := 0) dX6_holds_247 rfl rfl ?_
        refine vm_get hb 24 (Nat.le_of_ble_eq_true rfl) q1638 rfl dX6_holds_248 rfl ?_
        refine v_iconst dX6_holds_251 ic_0 ?_
        obtain ⟨hi_43, hw⟩ := hw
        refine v_zald dX6_holds_252 (mH_ar24 hb) hi_43 ?_
        obtain ⟨hw_46, hw_47⟩ := hw
        refine v_if_eq (tgt := 260) dX6_holds_253 (by decide) (fun c_44 => ?_) (fun c_45 => ?_)
        · have hw := hw_46 c_44
          refine v_iconst dX6_holds_260 ic_0 ?_
          exact v_zret dX6_holds_261 rfl rfl ⟨_, rfl, _, rfl, hw⟩
        · have hw := hw_47 c_45
          refine v_sub [0, 1, 2] rfl ?_
          exact b_X6_holds_256 hb ma hw
    · have hw := hw_38 c_36
      refine v_aload_n (q := 0) dX6_holds_28 rfl rfl ?_
      refine vm_get hb 6 (Nat.le_of_ble_eq_true rfl) q1620 rfl dX6_holds_29 rfl ?_
      refine v_sipush dX6_holds_32 sp_145 ?_
      refine v_iconst dX6_holds_35 ic_2 ?_
      refine v_iload (q := 4) dX6_holds_36 rfl ?_
      refine v_imul dX6_holds_38 ?_
      refine v_iadd dX6_holds_39 ?_
      obtain ⟨hi_48, hw⟩ := hw
      refine v_iald dX6_holds_40 (mH_ar6 hb) hi_48 ?_
      refine v_topi (fun z_49 e_49 => ?_)
      replace hw := hw z_49 e_49
      refine v_istore (lv1 := [(5, .int z_49), (0, va_rf (some (b 0))), (1, .int x1), (2, .int x2), (3, .int x3), (4, .int x4)]) dX6_holds_41 (Nat.le_of_ble_eq_true rfl) rfl ?_
      refine v_aload_n (q := 1) dX6_holds_43 rfl rfl ?_
      refine vm_get hb 6 (Nat.le_of_ble_eq_true rfl) q1620 rfl dX6_holds_44 rfl ?_
      refine v_sipush dX6_holds_47 sp_145 ?_
      refine v_iconst dX6_holds_50 ic_2 ?_
      refine v_iload (q := 5) dX6_holds_51 rfl ?_
      refine v_imul dX6_holds_53 ?_
      refine v_iadd dX6_holds_54 ?_
      refine v_iconst dX6_holds_55 ic_1 ?_
      refine v_iadd dX6_holds_56 ?_
      obtain ⟨hi_50, hw⟩ := hw
      refine v_iald dX6_holds_57 (mH_ar6 hb) hi_50 ?_
      refine v_topi (fun z_51 e_51 => ?_)
      replace hw := hw z_51 e_51
      refine v_istore (lv1 := [(6, .int z_51), (5, .int z_49), (0, va_rf (some (b 0))), (1, .int x1), (2, .int x2), (3, .int x3), (4, .int x4)]) dX6_holds_58 (Nat.le_of_ble_eq_true rfl) rfl ?_
      refine v_iload (q := 1) dX6_holds_60 rfl ?_
      refine v_iconst dX6_holds_62 ic_2 ?_
      obtain ⟨hw_54, hw_55⟩ := hw
      refine v_icmp_ne (tgt := 93) dX6_holds_63 (by decide) (fun c_52 => ?_) (fun c_53 => ?_)
      · have hw := hw_54 c_52
        refine v_iload (q := 1) dX6_holds_93 rfl ?_
        refine v_iconst dX6_holds_95 ic_3 ?_
        obtain ⟨hw_58, hw_59⟩ := hw
        refine v_icmp_eq (tgt := 105) dX6_holds_96 (by decide) (fun c_56 => ?_) (fun c_57 => ?_)
        · have hw := hw_58 c_56
          refine v_sub [2, 3, 4, 5, 6, 1] rfl ?_
          exact b_X6_holds_105 hb (fun q0 q1 q2 z => ih q0 q1 q2 z) x3 x4 z_49 ma hw
        · have hw := hw_59 c_57
          refine v_iload (q := 1) dX6_holds_99 rfl ?_
          refine v_iconst dX6_holds_101 ic_4 ?_
          obtain ⟨hw_62, hw_63⟩ := hw
          refine v_icmp_ne (tgt := 178) dX6_holds_102 (by decide) (fun c_60 => ?_) (fun c_61 => ?_)
          · have hw := hw_62 c_60
            refine v_aload_n (q := 2) dX6_holds_178 rfl rfl ?_
            refine vm_get hb 24 (Nat.le_of_ble_eq_true rfl) q1638 rfl dX6_holds_179 rfl ?_
            refine v_iload_n (q := 5) dX6_holds_182 rfl rfl ?_
            refine v_iload (q := 1) dX6_holds_183 rfl ?_
            refine v_iconst dX6_holds_185 ic_5 ?_
            obtain ⟨hw_66, hw_67⟩ := hw
            refine v_icmp_ne (tgt := 198) dX6_holds_186 (by decide) (fun c_64 => ?_) (fun c_65 => ?_)
            · have hw := hw_66 c_64
              refine v_iload (q := 1) dX6_holds_198 rfl ?_
              refine v_bipush dX6_holds_200 bp_6 ?_
              obtain ⟨hw_70, hw_71⟩ := hw
              refine v_icmp_ne (tgt := 222) dX6_holds_202 (by decide) (fun c_68 => ?_) (fun c_69 => ?_)
              · have hw := hw_70 c_68
                refine v_iload (q := 0) dX6_holds_222 rfl ?_
                refine v_iload_n (q := 4) dX6_holds_224 rfl rfl ?_
                obtain ⟨hw_74, hw_75⟩ := hw
                refine v_icmp_ne (tgt := 232) dX6_holds_225 (by decide) (fun c_72 => ?_) (fun c_73 => ?_)
                · have hw := hw_74 c_72
                  refine v_iconst dX6_holds_232 ic_0 ?_
                  refine v_sub [2, 3, 4, 5, 6] rfl ?_
                  exact b_X6_holds_233 hb (fun q0 q1 q2 z => ih q0 q1 q2 z) x3 x4 (nI 0) x3 ma hw
                · have hw := hw_75 c_73
                  refine v_iconst dX6_holds_228 ic_1 ?_
                  refine v_goto (tgt := 233) dX6_holds_229 (by decide) ?_
                  refine v_sub [2, 3, 4, 5, 6] rfl ?_
                  exact b_X6_holds_233 hb (fun q0 q1 q2 z => ih q0 q1 q2 z) x3 x4 (nI 1) x3 ma hw
              · have hw := hw_71 c_69
                refine v_aload_n (q := 2) dX6_holds_205 rfl rfl ?_
                refine vm_get hb 23 (Nat.le_of_ble_eq_true rfl) q1637 rfl dX6_holds_206 rfl ?_
                refine v_iload (q := 0) dX6_holds_209 rfl ?_
                obtain ⟨hw_78, hw_79⟩ := hw
                refine v_icmp_lt (tgt := 218) dX6_holds_211 (by decide) (fun c_76 => ?_) (fun c_77 => ?_)
                · have hw := hw_78 c_76
                  refine v_iconst dX6_holds_218 ic_0 ?_
                  refine v_goto (tgt := 233) dX6_holds_219 (by decide) ?_
                  refine v_sub [2, 3, 4, 5, 6] rfl ?_
                  exact b_X6_holds_233 hb (fun q0 q1 q2 z => ih q0 q1 q2 z) x3 x4 (nI 0) x3 ma hw
                · have hw := hw_79 c_77
                  refine v_iconst dX6_holds_214 ic_1 ?_
                  refine v_goto (tgt := 233) dX6_holds_215 (by decide) ?_
                  refine v_sub [2, 3, 4, 5, 6] rfl ?_
                  exact b_X6_holds_233 hb (fun q0 q1 q2 z => ih q0 q1 q2 z) x3 x4 (nI 1) x3 ma hw
            · have hw := hw_67 c_65
              refine v_aload_n (q := 2) dX6_holds_189 rfl rfl ?_
              refine v_iload (q := 0) dX6_holds_190 rfl ?_
              refine v_callV q1886 q1888 qs75 q113 q1889 (ci := 7) rfl (mH_obj hb) n_X6_hasWord ⟨Nat.le_of_ble_eq_true rfl, Nat.le_of_ble_eq_true rfl⟩ [.int z_51] [.int x3, va_rf (some (b 24))] (met_X6_hasWord hb hw) rfl (by simp only [List.map_cons, List.map_nil, List.sum_cons, List.sum_nil, v_rf1, v_cI, v_cJ]; decide) ⟨Nat.le_refl _, Nat.le_refl _⟩ dX6_holds_192 rfl (v_ki (fun z_80 h1 hv => ?_))
              clear hw
              obtain ⟨e9, hw⟩ := hv
              refine v_heap e9 ?_
              clear e9
              refine v_goto (tgt := 233) dX6_holds_195 (by decide) ?_
              refine v_sub [2, 3, 4, 5, 6] rfl ?_
              exact b_X6_holds_233 hb (fun q0 q1 q2 z => ih q0 q1 q2 z) x3 x4 z_80 x3 ma hw
          · have hw := hw_63 c_61
            refine v_sub [2, 3, 4, 5, 6, 1] rfl ?_
            exact b_X6_holds_105 hb (fun q0 q1 q2 z => ih q0 q1 q2 z) x3 x4 z_49 ma hw
      · have hw := hw_55 c_53
        refine v_aload_n (q := 2) dX6_holds_66 rfl rfl ?_
        refine vm_get hb 24 (Nat.le_of_ble_eq_true rfl) q1638 rfl dX6_holds_67 rfl ?_
        refine v_iload_n (q := 5) dX6_holds_70 rfl rfl ?_
        refine v_iconst dX6_holds_71 ic_1 ?_
        refine v_isub dX6_holds_72 ?_
        refine v_aload_n (q := 2) dX6_holds_73 rfl rfl ?_
        refine vm_get hb 24 (Nat.le_of_ble_eq_true rfl) q1638 rfl dX6_holds_74 rfl ?_
        refine v_iload_n (q := 5) dX6_holds_77 rfl rfl ?_
        refine v_iconst dX6_holds_78 ic_1 ?_
        refine v_isub dX6_holds_79 ?_
        obtain ⟨hi_81, hw⟩ := hw
        refine v_zald dX6_holds_80 (mH_ar24 hb) hi_81 ?_
        obtain ⟨hw_84, hw_85⟩ := hw
        refine v_if_ne (tgt := 88) dX6_holds_81 (by decide) (fun c_82 => ?_) (fun c_83 => ?_)
        · have hw := hw_84 c_82
          refine v_iconst dX6_holds_88 ic_0 ?_
          refine v_sub [2, 3, 4, 5, 6] rfl ?_
          exact b_X6_holds_89 hb (fun q0 q1 q2 z => ih q0 q1 q2 z) x3 x4 (nI 0) (x3 - (nI 1)) ma hw
        · have hw := hw_85 c_83
          refine v_iconst dX6_holds_84 ic_1 ?_
          refine v_goto (tgt := 89) dX6_holds_85 (by decide) ?_
          refine v_sub [2, 3, 4, 5, 6] rfl ?_
          exact b_X6_holds_89 hb (fun q0 q1 q2 z => ih q0 q1 q2 z) x3 x4 (nI 1) (x3 - (nI 1)) ma hw
theorem e_X6_holds {post : (Int32) → (Nat → Nat → Int32) → Prop}   {x1 : Int32} {x2 : Int32} {mi : Nat → Int32} {ma : Nat → Nat → Int32} {ml : Nat → Nat → Int64} (hb : mOK b)  (hw : w_X6_holds post  x1 x2 mi ma ml) : VV l E X cX6_holds RX6 "holds" 7 r_X6_holds (some .boolean) (vpi (fun (r : Int32) (h' : AH) => ∃ (ma' : Nat → Nat → Int32), h' = (mH b mi ma' ml) ∧ post r ma')) (mH b mi ma ml) 0 0 0 [(0, va_rf (some (b 0))), (1, .int x1), (2, .int x2)] [] := by
  refine v_iconst dX6_holds_0 ic_0 ?_
  refine v_istore_n (lv1 := [(3, .int (nI 0)), (0, va_rf (some (b 0))), (1, .int x1), (2, .int x2)]) dX6_holds_1 rfl (Nat.le_of_ble_eq_true rfl) rfl ?_
  refine v_aload_n (q := 1) dX6_holds_2 rfl rfl ?_
  refine vm_get hb 6 (Nat.le_of_ble_eq_true rfl) q1620 rfl dX6_holds_3 rfl ?_
  refine v_bipush dX6_holds_6 bp_121 ?_
  refine v_iload_n (q := 2) dX6_holds_8 rfl rfl ?_
  refine v_iadd dX6_holds_9 ?_
  obtain ⟨hi_86, hw⟩ := hw
  refine v_iald dX6_holds_10 (mH_ar6 hb) hi_86 ?_
  refine v_topi (fun z_87 e_87 => ?_)
  replace hw := hw z_87 e_87
  refine v_istore (lv1 := [(4, .int z_87), (3, .int (nI 0)), (0, va_rf (some (b 0))), (1, .int x1), (2, .int x2)]) dX6_holds_11 (Nat.le_of_ble_eq_true rfl) rfl ?_
  obtain ⟨n_88, hw⟩ := hw
  refine v_sub [2, 3, 4, 1, 0] rfl ?_
  exact b_X6_holds_13 hb n_88 (nI 0) z_87 ma hw
theorem met_X6_holds {post : (Int32) → (Nat → Nat → Int32) → Prop}   {x1 : Int32} {x2 : Int32} {mi : Nat → Int32} {ma : Nat → Nat → Int32} {ml : Nat → Nat → Int64} (hb : mOK b)  (hw : w_X6_holds post  x1 x2 mi ma ml) : Mt l E yX6_holds (ws_ yX6_holds cX6_holds 7 (some .boolean)) r_X6_holds [va_rf (some (b 0)), .int x1, .int x2] (mH b mi ma ml) (vpi (fun (r : Int32) (h' : AH) => ∃ (ma' : Nat → Nat → Int32), h' = (mH b mi ma' ml) ∧ post r ma')) := v_entry (by decide +kernel) (Nat.le_of_ble_eq_true rfl) rfl (fun _ => e_X6_holds hb hw)
end WALK
