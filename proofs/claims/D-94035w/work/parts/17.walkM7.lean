set_option maxRecDepth 100000
section WALK
variable {l : Launch} {E : VE} {X : VX} {b : Nat → Nat}
/-! X6_copies -/
abbrev r_X6_copies : Room := { frames := 0, cells := 0, slots := 0, locals := 0 }
theorem n_X6_copies : vdn yX6_copies 2 := ⟨by decide +kernel, by decide +kernel, by decide +kernel⟩
def w_X6_copies_119 (post : (Nat → Nat → Int32) → (Nat → Nat → Int64) → Prop) (x1 : Int32) (x2 : Int32) (mi : Nat → Int32) : Nat → (Int32) → (Nat → Nat → Int32) → (Nat → Nat → Int64) → Prop
 | 0, _, _, _ => False
 | n0 + 1, x3, ma, ml =>
 (((nI 29) ≤ x3 → (post ma ml)) ∧ (¬ (nI 29) ≤ x3 → (vp_in (((nI 29) * x1) + x3) 116 ∧ (vp_in (((nI 29) * x2) + x3) 116 ∧ ∀ ma_7 : Nat → Nat → Int32, ma_7 = mup ma 7 ((((nI 29) * x2) + x3)).toNatClampNeg (ma 7 ((((nI 29) * x1) + x3)).toNatClampNeg) → (∀ z_8 : Int32, z_8 = x3 + (nI 1) → (w_X6_copies_119 post x1 x2 mi n0 z_8 ma_7 ml))))))
def w_X6_copies_80 (post : (Nat → Nat → Int32) → (Nat → Nat → Int64) → Prop) (x1 : Int32) (x2 : Int32) (mi : Nat → Int32) : Nat → (Int32) → (Nat → Nat → Int32) → (Nat → Nat → Int64) → Prop
 | 0, _, _, _ => False
 | n0 + 1, x3, ma, ml =>
 (((nI 645) ≤ x3 → (∃ n1 : Nat, (w_X6_copies_119 post x1 x2 mi n1 (nI 0) ma ml))) ∧ (¬ (nI 645) ≤ x3 → (vp_in (((nI 645) * x1) + x3) 2580 ∧ (vp_in (((nI 645) * x2) + x3) 2580 ∧ ∀ ma_16 : Nat → Nat → Int32, ma_16 = mup ma 6 ((((nI 645) * x2) + x3)).toNatClampNeg (ma 6 ((((nI 645) * x1) + x3)).toNatClampNeg) → (∀ z_17 : Int32, z_17 = x3 + (nI 1) → (w_X6_copies_80 post x1 x2 mi n0 z_17 ma_16 ml))))))
def w_X6_copies_41 (post : (Nat → Nat → Int32) → (Nat → Nat → Int64) → Prop) (x1 : Int32) (x2 : Int32) (mi : Nat → Int32) : Nat → (Int32) → (Nat → Nat → Int32) → (Nat → Nat → Int64) → Prop
 | 0, _, _, _ => False
 | n0 + 1, x3, ma, ml =>
 (((nI 784) ≤ x3 → (∃ n1 : Nat, (w_X6_copies_80 post x1 x2 mi n1 (nI 0) ma ml))) ∧ (¬ (nI 784) ≤ x3 → (vp_in (((nI 784) * x1) + x3) 2352 ∧ (vp_in (((nI 784) * x2) + x3) 2352 ∧ ∀ ml_25 : Nat → Nat → Int64, ml_25 = mupL ml 3 ((((nI 784) * x2) + x3)).toNatClampNeg (ml 3 ((((nI 784) * x1) + x3)).toNatClampNeg) → (∀ z_26 : Int32, z_26 = x3 + (nI 1) → (w_X6_copies_41 post x1 x2 mi n0 z_26 ma ml_25))))))
def w_X6_copies_2 (post : (Nat → Nat → Int32) → (Nat → Nat → Int64) → Prop) (x1 : Int32) (x2 : Int32) (mi : Nat → Int32) : Nat → (Int32) → (Nat → Nat → Int32) → (Nat → Nat → Int64) → Prop
 | 0, _, _, _ => False
 | n0 + 1, x3, ma, ml =>
 (((nI 1124) ≤ x3 → (∃ n1 : Nat, (w_X6_copies_41 post x1 x2 mi n1 (nI 0) ma ml))) ∧ (¬ (nI 1124) ≤ x3 → (vp_in (((nI 1124) * x1) + x3) 3372 ∧ (vp_in (((nI 1124) * x2) + x3) 3372 ∧ ∀ ma_34 : Nat → Nat → Int32, ma_34 = mup ma 2 ((((nI 1124) * x2) + x3)).toNatClampNeg (ma 2 ((((nI 1124) * x1) + x3)).toNatClampNeg) → (∀ z_35 : Int32, z_35 = x3 + (nI 1) → (w_X6_copies_2 post x1 x2 mi n0 z_35 ma_34 ml))))))
def w_X6_copies (post : (Nat → Nat → Int32) → (Nat → Nat → Int64) → Prop) (x1 : Int32) (x2 : Int32) (mi : Nat → Int32) (ma : Nat → Nat → Int32) (ml : Nat → Nat → Int64) : Prop :=
 (∃ n1 : Nat, (w_X6_copies_2 post x1 x2 mi n1 (nI 0) ma ml))
theorem b_X6_copies_119 {post : (Nat → Nat → Int32) → (Nat → Nat → Int64) → Prop}   {x1 : Int32} {x2 : Int32} {mi : Nat → Int32}  (hb : mOK b)   : ∀ (n0 : Nat) (x3 : Int32) (ma : Nat → Nat → Int32) (ml : Nat → Nat → Int64), w_X6_copies_119 post x1 x2 mi n0 x3 ma ml → VV l E X cX6_copies RX6 "copies" 4 r_X6_copies none (vpv (fun (h' : AH) => ∃ (ma' : Nat → Nat → Int32) (ml' : Nat → Nat → Int64), h' = (mH b mi ma' ml') ∧ post ma' ml')) (mH b mi ma ml) 0 0 119 [(0, va_rf (some (b 0))), (1, .int x1), (2, .int x2), (3, .int x3)] [] := by
  intro n0
  induction n0 with
  | zero =>
    intro x3 ma ml hw
    exact hw.elim
  | succ n0 ih =>
    intro x3 ma ml hw
    refine v_iload_n (q := 3) dX6_copies_119 rfl rfl ?_
    refine v_bipush dX6_copies_120 bp_29 ?_
    obtain ⟨hw_3, hw_4⟩ := hw
    refine v_icmp_ge (tgt := 153) dX6_copies_122 (by decide) (fun c_1 => ?_) (fun c_2 => ?_)
    · have hw := hw_3 c_1
      exact v_vret dX6_copies_153 rfl ⟨rfl, _, _, rfl, hw⟩
    · have hw := hw_4 c_2
      refine v_aload_n (q := 0) dX6_copies_125 rfl rfl ?_
      refine vm_get hb 7 (Nat.le_of_ble_eq_true rfl) q1621 rfl dX6_copies_126 rfl ?_
      refine v_bipush dX6_copies_129 bp_29 ?_
      refine v_iload_n (q := 2) dX6_copies_131 rfl rfl ?_
      refine v_imul dX6_copies_132 ?_
      refine v_iload_n (q := 3) dX6_copies_133 rfl rfl ?_
      refine v_iadd dX6_copies_134 ?_
      refine v_aload_n (q := 0) dX6_copies_135 rfl rfl ?_
      refine vm_get hb 7 (Nat.le_of_ble_eq_true rfl) q1621 rfl dX6_copies_136 rfl ?_
      refine v_bipush dX6_copies_139 bp_29 ?_
      refine v_iload_n (q := 1) dX6_copies_141 rfl rfl ?_
      refine v_imul dX6_copies_142 ?_
      refine v_iload_n (q := 3) dX6_copies_143 rfl rfl ?_
      refine v_iadd dX6_copies_144 ?_
      obtain ⟨hi_5, hw⟩ := hw
      refine v_iald dX6_copies_145 (mH_ar7 hb) hi_5 ?_
      obtain ⟨hi_6, hw⟩ := hw
      obtain ⟨ma_7, ema_7⟩ : ∃ z9 : Nat → Nat → Int32, z9 = mup ma 7 ((((nI 29) * x2) + x3)).toNatClampNeg (ma 7 ((((nI 29) * x1) + x3)).toNatClampNeg) := ⟨_, rfl⟩
      replace hw := hw ma_7 ema_7
      refine v_iast dX6_copies_146 (mH_ar7 hb) hi_6 ?_
      refine v_heap (h' := mH b mi ma_7 ml) (by rw [ema_7]; exact mH_st7 hb) ?_
      obtain ⟨z_8, e_8⟩ : ∃ z9 : Int32, z9 = x3 + (nI 1) := ⟨_, rfl⟩
      replace hw := hw z_8 e_8
      refine v_iinc (q := 3) (v := z_8) (lv1 := [(3, .int z_8), (0, va_rf (some (b 0))), (1, .int x1), (2, .int x2)]) dX6_copies_147 rfl (by rw [e_8, ic_1]) (Nat.le_of_ble_eq_true rfl) rfl ?_
      refine v_goto (tgt := 119) dX6_copies_150 (by decide) ?_
      refine v_sub [1, 2, 3, 0] rfl ?_
      exact ih z_8 ma_7 ml hw
theorem b_X6_copies_80 {post : (Nat → Nat → Int32) → (Nat → Nat → Int64) → Prop}   {x1 : Int32} {x2 : Int32} {mi : Nat → Int32}  (hb : mOK b)   : ∀ (n0 : Nat) (x3 : Int32) (ma : Nat → Nat → Int32) (ml : Nat → Nat → Int64), w_X6_copies_80 post x1 x2 mi n0 x3 ma ml → VV l E X cX6_copies RX6 "copies" 4 r_X6_copies none (vpv (fun (h' : AH) => ∃ (ma' : Nat → Nat → Int32) (ml' : Nat → Nat → Int64), h' = (mH b mi ma' ml') ∧ post ma' ml')) (mH b mi ma ml) 0 0 80 [(0, va_rf (some (b 0))), (1, .int x1), (2, .int x2), (3, .int x3)] [] := by
  intro n0
  induction n0 with
  | zero =>
    intro x3 ma ml hw
    exact hw.elim
  | succ n0 ih =>
    intro x3 ma ml hw
    refine v_iload_n (q := 3) dX6_copies_80 rfl rfl ?_
    refine v_sipush dX6_copies_81 sp_645 ?_
    obtain ⟨hw_11, hw_12⟩ := hw
    refine v_icmp_ge (tgt := 117) dX6_copies_84 (by decide) (fun c_9 => ?_) (fun c_10 => ?_)
    · have hw := hw_11 c_9
      refine v_iconst dX6_copies_117 ic_0 ?_
      refine v_istore_n (lv1 := [(3, .int (nI 0)), (0, va_rf (some (b 0))), (1, .int x1), (2, .int x2)]) dX6_copies_118 rfl (Nat.le_of_ble_eq_true rfl) rfl ?_
      obtain ⟨n_13, hw⟩ := hw
      refine v_sub [1, 2, 3, 0] rfl ?_
      exact b_X6_copies_119 hb n_13 (nI 0) ma ml hw
    · have hw := hw_12 c_10
      refine v_aload_n (q := 0) dX6_copies_87 rfl rfl ?_
      refine vm_get hb 6 (Nat.le_of_ble_eq_true rfl) q1620 rfl dX6_copies_88 rfl ?_
      refine v_sipush dX6_copies_91 sp_645 ?_
      refine v_iload_n (q := 2) dX6_copies_94 rfl rfl ?_
      refine v_imul dX6_copies_95 ?_
      refine v_iload_n (q := 3) dX6_copies_96 rfl rfl ?_
      refine v_iadd dX6_copies_97 ?_
      refine v_aload_n (q := 0) dX6_copies_98 rfl rfl ?_
      refine vm_get hb 6 (Nat.le_of_ble_eq_true rfl) q1620 rfl dX6_copies_99 rfl ?_
      refine v_sipush dX6_copies_102 sp_645 ?_
      refine v_iload_n (q := 1) dX6_copies_105 rfl rfl ?_
      refine v_imul dX6_copies_106 ?_
      refine v_iload_n (q := 3) dX6_copies_107 rfl rfl ?_
      refine v_iadd dX6_copies_108 ?_
      obtain ⟨hi_14, hw⟩ := hw
      refine v_iald dX6_copies_109 (mH_ar6 hb) hi_14 ?_
      obtain ⟨hi_15, hw⟩ := hw
      obtain ⟨ma_16, ema_16⟩ : ∃ z9 : Nat → Nat → Int32, z9 = mup ma 6 ((((nI 645) * x2) + x3)).toNatClampNeg (ma 6 ((((nI 645) * x1) + x3)).toNatClampNeg) := ⟨_, rfl⟩
      replace hw := hw ma_16 ema_16
      refine v_iast dX6_copies_110 (mH_ar6 hb) hi_15 ?_
      refine v_heap (h' := mH b mi ma_16 ml) (by rw [ema_16]; exact mH_st6 hb) ?_
      obtain ⟨z_17, e_17⟩ : ∃ z9 : Int32, z9 = x3 + (nI 1) := ⟨_, rfl⟩
      replace hw := hw z_17 e_17
      refine v_iinc (q := 3) (v := z_17) (lv1 := [(3, .int z_17), (0, va_rf (some (b 0))), (1, .int x1), (2, .int x2)]) dX6_copies_111 rfl (by rw [e_17, ic_1]) (Nat.le_of_ble_eq_true rfl) rfl ?_
      refine v_goto (tgt := 80) dX6_copies_114 (by decide) ?_
      refine v_sub [1, 2, 3, 0] rfl ?_
      exact ih z_17 ma_16 ml hw
theorem b_X6_copies_41 {post : (Nat → Nat → Int32) → (Nat → Nat → Int64) → Prop}   {x1 : Int32} {x2 : Int32} {mi : Nat → Int32}  (hb : mOK b)   : ∀ (n0 : Nat) (x3 : Int32) (ma : Nat → Nat → Int32) (ml : Nat → Nat → Int64), w_X6_copies_41 post x1 x2 mi n0 x3 ma ml → VV l E X cX6_copies RX6 "copies" 4 r_X6_copies none (vpv (fun (h' : AH) => ∃ (ma' : Nat → Nat → Int32) (ml' : Nat → Nat → Int64), h' = (mH b mi ma' ml') ∧ post ma' ml')) (mH b mi ma ml) 0 0 41 [(0, va_rf (some (b 0))), (1, .int x1), (2, .int x2), (3, .int x3)] [] := by
  intro n0
  induction n0 with
  | zero =>
    intro x3 ma ml hw
    exact hw.elim
  | succ n0 ih =>
    intro x3 ma ml hw
    refine v_iload_n (q := 3) dX6_copies_41 rfl rfl ?_
    refine v_sipush dX6_copies_42 sp_784 ?_
    obtain ⟨hw_20, hw_21⟩ := hw
    refine v_icmp_ge (tgt := 78) dX6_copies_45 (by decide) (fun c_18 => ?_) (fun c_19 => ?_)
    · have hw := hw_20 c_18
      refine v_iconst dX6_copies_78 ic_0 ?_
      refine v_istore_n (lv1 := [(3, .int (nI 0)), (0, va_rf (some (b 0))), (1, .int x1), (2, .int x2)]) dX6_copies_79 rfl (Nat.le_of_ble_eq_true rfl) rfl ?_
      obtain ⟨n_22, hw⟩ := hw
      refine v_sub [1, 2, 3, 0] rfl ?_
      exact b_X6_copies_80 hb n_22 (nI 0) ma ml hw
    · have hw := hw_21 c_19
      refine v_aload_n (q := 0) dX6_copies_48 rfl rfl ?_
      refine vm_get hb 3 (Nat.le_of_ble_eq_true rfl) q1617 rfl dX6_copies_49 rfl ?_
      refine v_sipush dX6_copies_52 sp_784 ?_
      refine v_iload_n (q := 2) dX6_copies_55 rfl rfl ?_
      refine v_imul dX6_copies_56 ?_
      refine v_iload_n (q := 3) dX6_copies_57 rfl rfl ?_
      refine v_iadd dX6_copies_58 ?_
      refine v_aload_n (q := 0) dX6_copies_59 rfl rfl ?_
      refine vm_get hb 3 (Nat.le_of_ble_eq_true rfl) q1617 rfl dX6_copies_60 rfl ?_
      refine v_sipush dX6_copies_63 sp_784 ?_
      refine v_iload_n (q := 1) dX6_copies_66 rfl rfl ?_
      refine v_imul dX6_copies_67 ?_
      refine v_iload_n (q := 3) dX6_copies_68 rfl rfl ?_
      refine v_iadd dX6_copies_69 ?_
      obtain ⟨hi_23, hw⟩ := hw
      refine v_lald dX6_copies_70 (mH_ar3 hb) hi_23 ?_
      obtain ⟨hi_24, hw⟩ := hw
      obtain ⟨ml_25, eml_25⟩ : ∃ z9 : Nat → Nat → Int64, z9 = mupL ml 3 ((((nI 784) * x2) + x3)).toNatClampNeg (ml 3 ((((nI 784) * x1) + x3)).toNatClampNeg) := ⟨_, rfl⟩
      replace hw := hw ml_25 eml_25
      refine v_last dX6_copies_71 (mH_ar3 hb) hi_24 ?_
      refine v_heap (h' := mH b mi ma ml_25) (by rw [eml_25]; exact mH_st3 hb) ?_
      obtain ⟨z_26, e_26⟩ : ∃ z9 : Int32, z9 = x3 + (nI 1) := ⟨_, rfl⟩
      replace hw := hw z_26 e_26
      refine v_iinc (q := 3) (v := z_26) (lv1 := [(3, .int z_26), (0, va_rf (some (b 0))), (1, .int x1), (2, .int x2)]) dX6_copies_72 rfl (by rw [e_26, ic_1]) (Nat.le_of_ble_eq_true rfl) rfl ?_
      refine v_goto (tgt := 41) dX6_copies_75 (by decide) ?_
      refine v_sub [1, 2, 3, 0] rfl ?_
      exact ih z_26 ma ml_25 hw
theorem b_X6_copies_2 {post : (Nat → Nat → Int32) → (Nat → Nat → Int64) → Prop}   {x1 : Int32} {x2 : Int32} {mi : Nat → Int32}  (hb : mOK b)   : ∀ (n0 : Nat) (x3 : Int32) (ma : Nat → Nat → Int32) (ml : Nat → Nat → Int64), w_X6_copies_2 post x1 x2 mi n0 x3 ma ml → VV l E X cX6_copies RX6 "copies" 4 r_X6_copies none (vpv (fun (h' : AH) => ∃ (ma' : Nat → Nat → Int32) (ml' : Nat → Nat → Int64), h' = (mH b mi ma' ml') ∧ post ma' ml')) (mH b mi ma ml) 0 0 2 [(0, va_rf (some (b 0))), (1, .int x1), (2, .int x2), (3, .int x3)] [] := by
  intro n0
  induction n0 with
  | zero =>
    intro x3 ma ml hw
    exact hw.elim
  | succ n0 ih =>
    intro x3 ma ml hw
    refine v_iload_n (q := 3) dX6_copies_2 rfl rfl ?_
    refine v_sipush dX6_copies_3 sp_1124 ?_
    obtain ⟨hw_29, hw_30⟩ := hw
    refine v_icmp_ge (tgt := 39) dX6_copies_6 (by decide) (fun c_27 => ?_) (fun c_28 => ?_)
    · have hw := hw_29 c_27
      refine v_iconst dX6_copies_39 ic_0 ?_
      refine v_istore_n (lv1 := [(3, .int (nI 0)), (0, va_rf (some (b 0))), (1, .int x1), (2, .int x2)]) dX6_copies_40 rfl (Nat.le_of_ble_eq_true rfl) rfl ?_
      obtain ⟨n_31, hw⟩ := hw
      refine v_sub [1, 2, 3, 0] rfl ?_
      exact b_X6_copies_41 hb n_31 (nI 0) ma ml hw
    · have hw := hw_30 c_28
      refine v_aload_n (q := 0) dX6_copies_9 rfl rfl ?_
      refine vm_get hb 2 (Nat.le_of_ble_eq_true rfl) q1616 rfl dX6_copies_10 rfl ?_
      refine v_sipush dX6_copies_13 sp_1124 ?_
      refine v_iload_n (q := 2) dX6_copies_16 rfl rfl ?_
      refine v_imul dX6_copies_17 ?_
      refine v_iload_n (q := 3) dX6_copies_18 rfl rfl ?_
      refine v_iadd dX6_copies_19 ?_
      refine v_aload_n (q := 0) dX6_copies_20 rfl rfl ?_
      refine vm_get hb 2 (Nat.le_of_ble_eq_true rfl) q1616 rfl dX6_copies_21 rfl ?_
      refine v_sipush dX6_copies_24 sp_1124 ?_
      refine v_iload_n (q := 1) dX6_copies_27 rfl rfl ?_
      refine v_imul dX6_copies_28 ?_
      refine v_iload_n (q := 3) dX6_copies_29 rfl rfl ?_
      refine v_iadd dX6_copies_30 ?_
      obtain ⟨hi_32, hw⟩ := hw
      refine v_iald dX6_copies_31 (mH_ar2 hb) hi_32 ?_
      obtain ⟨hi_33, hw⟩ := hw
      obtain ⟨ma_34, ema_34⟩ : ∃ z9 : Nat → Nat → Int32, z9 = mup ma 2 ((((nI 1124) * x2) + x3)).toNatClampNeg (ma 2 ((((nI 1124) * x1) + x3)).toNatClampNeg) := ⟨_, rfl⟩
      replace hw := hw ma_34 ema_34
      refine v_iast dX6_copies_32 (mH_ar2 hb) hi_33 ?_
      refine v_heap (h' := mH b mi ma_34 ml) (by rw [ema_34]; exact mH_st2 hb) ?_
      obtain ⟨z_35, e_35⟩ : ∃ z9 : Int32, z9 = x3 + (nI 1) := ⟨_, rfl⟩
      replace hw := hw z_35 e_35
      refine v_iinc (q := 3) (v := z_35) (lv1 := [(3, .int z_35), (0, va_rf (some (b 0))), (1, .int x1), (2, .int x2)]) dX6_copies_33 rfl (by rw [e_35, ic_1]) (Nat.le_of_ble_eq_true rfl) rfl ?_
      refine v_goto (tgt := 2) dX6_copies_36 (by decide) ?_
      refine v_sub [1, 2, 3, 0] rfl ?_
      exact ih z_35 ma_34 ml hw
theorem e_X6_copies {post : (Nat → Nat → Int32) → (Nat → Nat → Int64) → Prop}   {x1 : Int32} {x2 : Int32} {mi : Nat → Int32} {ma : Nat → Nat → Int32} {ml : Nat → Nat → Int64} (hb : mOK b)  (hw : w_X6_copies post  x1 x2 mi ma ml) : VV l E X cX6_copies RX6 "copies" 4 r_X6_copies none (vpv (fun (h' : AH) => ∃ (ma' : Nat → Nat → Int32) (ml' : Nat → Nat → Int64), h' = (mH b mi ma' ml') ∧ post ma' ml')) (mH b mi ma ml) 0 0 0 [(0, va_rf (some (b 0))), (1, .int x1), (2, .int x2)] [] := by
  refine v_iconst dX6_copies_0 ic_0 ?_
  refine v_istore_n (lv1 := [(3, .int (nI 0)), (0, va_rf (some (b 0))), (1, .int x1), (2, .int x2)]) dX6_copies_1 rfl (Nat.le_of_ble_eq_true rfl) rfl ?_
  obtain ⟨n_36, hw⟩ := hw
  refine v_sub [1, 2, 3, 0] rfl ?_
  exact b_X6_copies_2 hb n_36 (nI 0) ma ml hw
theorem met_X6_copies {post : (Nat → Nat → Int32) → (Nat → Nat → Int64) → Prop}   {x1 : Int32} {x2 : Int32} {mi : Nat → Int32} {ma : Nat → Nat → Int32} {ml : Nat → Nat → Int64} (hb : mOK b)  (hw : w_X6_copies post  x1 x2 mi ma ml) : Mt l E yX6_copies (ws_ yX6_copies cX6_copies 4 none) r_X6_copies [va_rf (some (b 0)), .int x1, .int x2] (mH b mi ma ml) (vpv (fun (h' : AH) => ∃ (ma' : Nat → Nat → Int32) (ml' : Nat → Nat → Int64), h' = (mH b mi ma' ml') ∧ post ma' ml')) := v_entry (by decide +kernel) (Nat.le_of_ble_eq_true rfl) rfl (fun _ => e_X6_copies hb hw)
/-! X6_image -/
abbrev r_X6_image : Room := { frames := 1, cells := 0, slots := 0, locals := 25 }
theorem n_X6_image : vdn yX6_image 1 := ⟨by decide +kernel, by decide +kernel, by decide +kernel⟩
def w_X6_image (post : (Int32) → (Nat → Int32) → (Nat → Nat → Int32) → (Nat → Nat → Int64) → Prop) (x1 : Int32) (mi : Nat → Int32) (ma : Nat → Nat → Int32) (ml : Nat → Nat → Int64) : Prop :=
 (∀ mi_1 : Nat → Int32, mi_1 = upd mi 0 (nI 0) → (w_X6_within (fun (z_2 : Int32) => ((¬ z_2 = 0 → (w_X6_copies (fun (ma_7 : Nat → Nat → Int32) (ml_8 : Nat → Nat → Int64) => (vp_in x1 2 ∧ ∀ ma_10 : Nat → Nat → Int32, ma_10 = mup ma_7 4 (x1).toNatClampNeg (vp_nar .boolean (nI 1)) → (post (nI 0) mi_1 ma_10 ml_8))) (nI 0) (x1 + (nI 1)) mi_1 ma ml)) ∧ (z_2 = 0 → (w_X6_no (fun (z_11 : Int32) (ma_12 : Nat → Nat → Int32) => (post z_11 mi_1 ma_12 ml)) (-2) mi_1 ma ml)))) ((x1).toInt64) (lN 0) (lN 1)))
theorem e_X6_image {post : (Int32) → (Nat → Int32) → (Nat → Nat → Int32) → (Nat → Nat → Int64) → Prop}   {x1 : Int32} {mi : Nat → Int32} {ma : Nat → Nat → Int32} {ml : Nat → Nat → Int64} (hb : mOK b)  (hw : w_X6_image post  x1 mi ma ml) : VV l E X cX6_image RX6 "image" 2 r_X6_image (some .int) (vpi (fun (r : Int32) (h' : AH) => ∃ (mi' : Nat → Int32) (ma' : Nat → Nat → Int32) (ml' : Nat → Nat → Int64), h' = (mH b mi' ma' ml') ∧ post r mi' ma' ml')) (mH b mi ma ml) 0 0 0 [(0, va_rf (some (b 0))), (1, .int x1)] [] := by
  refine v_aload_n (q := 0) dX6_image_0 rfl rfl ?_
  refine v_iconst dX6_image_1 ic_0 ?_
  obtain ⟨mi_1, emi_1⟩ : ∃ z9 : Nat → Int32, z9 = upd mi 0 (nI 0) := ⟨_, rfl⟩
  replace hw := hw mi_1 emi_1
  refine vm_put hb 0 (Nat.le_of_ble_eq_true rfl) q1614 rfl rfl rfl dX6_image_2 emi_1 rfl ?_
  refine v_iload_n (q := 1) dX6_image_5 rfl rfl ?_
  refine v_i2l dX6_image_6 ?_
  refine v_lconst (v := lN 0) dX6_image_7 rfl ?_
  refine v_lconst (v := lN 1) dX6_image_8 rfl ?_
  refine v_callS q1734 q1735 q113 q1736 n_X6_within ⟨Nat.le_of_ble_eq_true rfl, Nat.le_of_ble_eq_true rfl⟩ [.long ((x1).toInt64), .long (lN 0), .long (lN 1)] [] (met_X6_within hw) rfl (Nat.zero_le _) ⟨Nat.le_refl _, Nat.le_refl _⟩ dX6_image_9 rfl (v_ki (fun z_2 h1 hv => ?_))
  clear hw
  obtain ⟨e9, hw⟩ := hv
  refine v_heap e9 ?_
  clear e9
  obtain ⟨hw_5, hw_6⟩ := hw
  refine v_if_ne (tgt := 22) dX6_image_12 (by decide) (fun c_3 => ?_) (fun c_4 => ?_)
  · have hw := hw_5 c_3
    refine v_aload_n (q := 0) dX6_image_22 rfl rfl ?_
    refine v_iconst dX6_image_23 ic_0 ?_
    refine v_iload_n (q := 1) dX6_image_24 rfl rfl ?_
    refine v_iconst dX6_image_25 ic_1 ?_
    refine v_iadd dX6_image_26 ?_
    refine v_callV q2146 q2148 qs102 q113 q2149 (ci := 7) rfl (mH_obj hb) n_X6_copies ⟨Nat.le_of_ble_eq_true rfl, Nat.le_of_ble_eq_true rfl⟩ [.int (nI 0), .int (x1 + (nI 1))] [] (met_X6_copies hb hw) rfl (Nat.zero_le _) ⟨Nat.le_refl _, Nat.le_refl _⟩ dX6_image_27 rfl (v_kv (fun h1 hv => ?_))
    clear hw
    obtain ⟨ma_7, ml_8, rfl, hw⟩ := hv
    refine v_aload_n (q := 0) dX6_image_30 rfl rfl ?_
    refine vm_get hb 4 (Nat.le_of_ble_eq_true rfl) q1618 rfl dX6_image_31 rfl ?_
    refine v_iload_n (q := 1) dX6_image_34 rfl rfl ?_
    refine v_iconst dX6_image_35 ic_1 ?_
    obtain ⟨hi_9, hw⟩ := hw
    obtain ⟨ma_10, ema_10⟩ : ∃ z9 : Nat → Nat → Int32, z9 = mup ma_7 4 (x1).toNatClampNeg (vp_nar .boolean (nI 1)) := ⟨_, rfl⟩
    replace hw := hw ma_10 ema_10
    refine v_zast dX6_image_36 (mH_ar4 hb) hi_9 ?_
    refine v_heap (h' := mH b mi_1 ma_10 ml_8) (by rw [ema_10]; exact mH_st4 hb) ?_
    refine v_iconst dX6_image_37 ic_0 ?_
    exact v_iret dX6_image_38 rfl ⟨_, rfl, _, _, _, rfl, hw⟩
  · have hw := hw_6 c_4
    refine v_aload_n (q := 0) dX6_image_15 rfl rfl ?_
    refine v_bipush dX6_image_16 bp_m2 ?_
    refine v_callV q1737 q1739 qs53 q113 q1740 (ci := 7) rfl (mH_obj hb) n_X6_no ⟨Nat.le_of_ble_eq_true rfl, Nat.le_of_ble_eq_true rfl⟩ [.int (-2)] [] (met_X6_no hb hw) rfl (Nat.zero_le _) ⟨Nat.le_refl _, Nat.le_refl _⟩ dX6_image_18 rfl (v_ki (fun z_11 h1 hv => ?_))
    clear hw
    obtain ⟨ma_12, rfl, hw⟩ := hv
    exact v_iret dX6_image_21 rfl ⟨_, rfl, _, _, _, rfl, hw⟩
theorem met_X6_image {post : (Int32) → (Nat → Int32) → (Nat → Nat → Int32) → (Nat → Nat → Int64) → Prop}   {x1 : Int32} {mi : Nat → Int32} {ma : Nat → Nat → Int32} {ml : Nat → Nat → Int64} (hb : mOK b)  (hw : w_X6_image post  x1 mi ma ml) : Mt l E yX6_image (ws_ yX6_image cX6_image 2 (some .int)) r_X6_image [va_rf (some (b 0)), .int x1] (mH b mi ma ml) (vpi (fun (r : Int32) (h' : AH) => ∃ (mi' : Nat → Int32) (ma' : Nat → Nat → Int32) (ml' : Nat → Nat → Int64), h' = (mH b mi' ma' ml') ∧ post r mi' ma' ml')) := v_entry (by decide +kernel) (Nat.le_of_ble_eq_true rfl) rfl (fun _ => e_X6_image hb hw)
/-! X6_restore -/
abbrev r_X6_restore : Room := { frames := 1, cells := 0, slots := 0, locals := 25 }
theorem n_X6_restore : vdn yX6_restore 1 := ⟨by decide +kernel, by decide +kernel, by decide +kernel⟩
def w_X6_restore (post : (Int32) → (Nat → Int32) → (Nat → Nat → Int32) → (Nat → Nat → Int64) → Prop) (x1 : Int32) (mi : Nat → Int32) (ma : Nat → Nat → Int32) (ml : Nat → Nat → Int64) : Prop :=
 (∀ mi_1 : Nat → Int32, mi_1 = upd mi 0 (nI 0) → (w_X6_within (fun (z_2 : Int32) => ((¬ z_2 = 0 → (vp_in x1 2 ∧ ((¬ (ma 4 (x1).toNatClampNeg) = 0 → (w_X6_copies (fun (ma_12 : Nat → Nat → Int32) (ml_13 : Nat → Nat → Int64) => (post (nI 0) mi_1 ma_12 ml_13)) (x1 + (nI 1)) (nI 0) mi_1 ma ml)) ∧ ((ma 4 (x1).toNatClampNeg) = 0 → (w_X6_no (fun (z_14 : Int32) (ma_15 : Nat → Nat → Int32) => (post z_14 mi_1 ma_15 ml)) (-5) mi_1 ma ml))))) ∧ (z_2 = 0 → (w_X6_no (fun (z_16 : Int32) (ma_17 : Nat → Nat → Int32) => (post z_16 mi_1 ma_17 ml)) (-2) mi_1 ma ml)))) ((x1).toInt64) (lN 0) (lN 1)))
theorem e_X6_restore {post : (Int32) → (Nat → Int32) → (Nat → Nat → Int32) → (Nat → Nat → Int64) → Prop}   {x1 : Int32} {mi : Nat → Int32} {ma : Nat → Nat → Int32} {ml : Nat → Nat → Int64} (hb : mOK b)  (hw : w_X6_restore post  x1 mi ma ml) : VV l E X cX6_restore RX6 "restore" 2 r_X6_restore (some .int) (vpi (fun (r : Int32) (h' : AH) => ∃ (mi' : Nat → Int32) (ma' : Nat → Nat → Int32) (ml' : Nat → Nat → Int64), h' = (mH b mi' ma' ml') ∧ post r mi' ma' ml')) (mH b mi ma ml) 0 0 0 [(0, va_rf (some (b 0))), (1, .int x1)] [] := by
  refine v_aload_n (q := 0) dX6_restore_0 rfl rfl ?_
  refine v_iconst dX6_restore_1 ic_0 ?_
  obtain ⟨mi_1, emi_1⟩ : ∃ z9 : Nat → Int32, z9 = upd mi 0 (nI 0) := ⟨_, rfl⟩
  replace hw := hw mi_1 emi_1
  refine vm_put hb 0 (Nat.le_of_ble_eq_true rfl) q1614 rfl rfl rfl dX6_restore_2 emi_1 rfl ?_
  refine v_iload_n (q := 1) dX6_restore_5 rfl rfl ?_
  refine v_i2l dX6_restore_6 ?_
  refine v_lconst (v := lN 0) dX6_restore_7 rfl ?_
  refine v_lconst (v := lN 1) dX6_restore_8 rfl ?_
  refine v_callS q1734 q1735 q113 q1736 n_X6_within ⟨Nat.le_of_ble_eq_true rfl, Nat.le_of_ble_eq_true rfl⟩ [.long ((x1).toInt64), .long (lN 0), .long (lN 1)] [] (met_X6_within hw) rfl (Nat.zero_le _) ⟨Nat.le_refl _, Nat.le_refl _⟩ dX6_restore_9 rfl (v_ki (fun z_2 h1 hv => ?_))
  clear hw
  obtain ⟨e9, hw⟩ := hv
  refine v_heap e9 ?_
  clear e9
  obtain ⟨hw_5, hw_6⟩ := hw
  refine v_if_ne (tgt := 22) dX6_restore_12 (by decide) (fun c_3 => ?_) (fun c_4 => ?_)
  · have hw := hw_5 c_3
    refine v_aload_n (q := 0) dX6_restore_22 rfl rfl ?_
    refine vm_get hb 4 (Nat.le_of_ble_eq_true rfl) q1618 rfl dX6_restore_23 rfl ?_
    refine v_iload_n (q := 1) dX6_restore_26 rfl rfl ?_
    obtain ⟨hi_7, hw⟩ := hw
    refine v_zald dX6_restore_27 (mH_ar4 hb) hi_7 ?_
    obtain ⟨hw_10, hw_11⟩ := hw
    refine v_if_ne (tgt := 38) dX6_restore_28 (by decide) (fun c_8 => ?_) (fun c_9 => ?_)
    · have hw := hw_10 c_8
      refine v_aload_n (q := 0) dX6_restore_38 rfl rfl ?_
      refine v_iload_n (q := 1) dX6_restore_39 rfl rfl ?_
      refine v_iconst dX6_restore_40 ic_1 ?_
      refine v_iadd dX6_restore_41 ?_
      refine v_iconst dX6_restore_42 ic_0 ?_
      refine v_callV q2146 q2148 qs102 q113 q2149 (ci := 7) rfl (mH_obj hb) n_X6_copies ⟨Nat.le_of_ble_eq_true rfl, Nat.le_of_ble_eq_true rfl⟩ [.int (x1 + (nI 1)), .int (nI 0)] [] (met_X6_copies hb hw) rfl (Nat.zero_le _) ⟨Nat.le_refl _, Nat.le_refl _⟩ dX6_restore_43 rfl (v_kv (fun h1 hv => ?_))
      clear hw
      obtain ⟨ma_12, ml_13, rfl, hw⟩ := hv
      refine v_iconst dX6_restore_46 ic_0 ?_
      exact v_iret dX6_restore_47 rfl ⟨_, rfl, _, _, _, rfl, hw⟩
    · have hw := hw_11 c_9
      refine v_aload_n (q := 0) dX6_restore_31 rfl rfl ?_
      refine v_bipush dX6_restore_32 bp_m5 ?_
      refine v_callV q1737 q1739 qs53 q113 q1740 (ci := 7) rfl (mH_obj hb) n_X6_no ⟨Nat.le_of_ble_eq_true rfl, Nat.le_of_ble_eq_true rfl⟩ [.int (-5)] [] (met_X6_no hb hw) rfl (Nat.zero_le _) ⟨Nat.le_refl _, Nat.le_refl _⟩ dX6_restore_34 rfl (v_ki (fun z_14 h1 hv => ?_))
      clear hw
      obtain ⟨ma_15, rfl, hw⟩ := hv
      exact v_iret dX6_restore_37 rfl ⟨_, rfl, _, _, _, rfl, hw⟩
  · have hw := hw_6 c_4
    refine v_aload_n (q := 0) dX6_restore_15 rfl rfl ?_
    refine v_bipush dX6_restore_16 bp_m2 ?_
    refine v_callV q1737 q1739 qs53 q113 q1740 (ci := 7) rfl (mH_obj hb) n_X6_no ⟨Nat.le_of_ble_eq_true rfl, Nat.le_of_ble_eq_true rfl⟩ [.int (-2)] [] (met_X6_no hb hw) rfl (Nat.zero_le _) ⟨Nat.le_refl _, Nat.le_refl _⟩ dX6_restore_18 rfl (v_ki (fun z_16 h1 hv => ?_))
    clear hw
    obtain ⟨ma_17, rfl, hw⟩ := hv
    exact v_iret dX6_restore_21 rfl ⟨_, rfl, _, _, _, rfl, hw⟩
theorem met_X6_restore {post : (Int32) → (Nat → Int32) → (Nat → Nat → Int32) → (Nat → Nat → Int64) → Prop}   {x1 : Int32} {mi : Nat → Int32} {ma : Nat → Nat → Int32} {ml : Nat → Nat → Int64} (hb : mOK b)  (hw : w_X6_restore post  x1 mi ma ml) : Mt l E yX6_restore (ws_ yX6_restore cX6_restore 2 (some .int)) r_X6_restore [va_rf (some (b 0)), .int x1] (mH b mi ma ml) (vpi (fun (r : Int32) (h' : AH) => ∃ (mi' : Nat → Int32) (ma' : Nat → Nat → Int32) (ml' : Nat → Nat → Int64), h' = (mH b mi' ma' ml') ∧ post r mi' ma' ml')) := v_entry (by decide +kernel) (Nat.le_of_ble_eq_true rfl) rfl (fun _ => e_X6_restore hb hw)
/-! X6_status -/
abbrev r_X6_status : Room := { frames := 1, cells := 0, slots := 0, locals := 25 }
theorem n_X6_status : vdn yX6_status 1 := ⟨by decide +kernel, by decide +kernel, by decide +kernel⟩
def w_X6_status (post : (Int32) → (Nat → Int32) → Prop) (x1 : Int32) (mi : Nat → Int32) (ma : Nat → Nat → Int32) (ml : Nat → Nat → Int64) : Prop :=
 (∀ mi_1 : Nat → Int32, mi_1 = upd mi 0 (nI 0) → (w_X6_within (fun (z_2 : Int32) => ((z_2 = 0 → (post (-1) mi_1)) ∧ (¬ z_2 = 0 → (vp_in x1 8 ∧ (post (ma 1 (x1).toNatClampNeg) mi_1))))) ((x1).toInt64) (lN 1) (lN 7)))
theorem e_X6_status {post : (Int32) → (Nat → Int32) → Prop}   {x1 : Int32} {mi : Nat → Int32} {ma : Nat → Nat → Int32} {ml : Nat → Nat → Int64} (hb : mOK b)  (hw : w_X6_status post  x1 mi ma ml) : VV l E X cX6_status RX6 "status" 2 r_X6_status (some .int) (vpi (fun (r : Int32) (h' : AH) => ∃ (mi' : Nat → Int32), h' = (mH b mi' ma ml) ∧ post r mi')) (mH b mi ma ml) 0 0 0 [(0, va_rf (some (b 0))), (1, .int x1)] [] := by
  refine v_aload_n (q := 0) dX6_status_0 rfl rfl ?_
  refine v_iconst dX6_status_1 ic_0 ?_
  obtain ⟨mi_1, emi_1⟩ : ∃ z9 : Nat → Int32, z9 = upd mi 0 (nI 0) := ⟨_, rfl⟩
  replace hw := hw mi_1 emi_1
  refine vm_put hb 0 (Nat.le_of_ble_eq_true rfl) q1614 rfl rfl rfl dX6_status_2 emi_1 rfl ?_
  refine v_iload_n (q := 1) dX6_status_5 rfl rfl ?_
  refine v_i2l dX6_status_6 ?_
  refine v_lconst (v := lN 1) dX6_status_7 rfl ?_
  refine v_ldc2 (v := (lN 7)) dX6_status_8 q2158 ?_
  refine v_callS q1734 q1735 q113 q1736 n_X6_within ⟨Nat.le_of_ble_eq_true rfl, Nat.le_of_ble_eq_true rfl⟩ [.long ((x1).toInt64), .long (lN 1), .long (lN 7)] [] (met_X6_within hw) rfl (Nat.zero_le _) ⟨Nat.le_refl _, Nat.le_refl _⟩ dX6_status_11 rfl (v_ki (fun z_2 h1 hv => ?_))
  clear hw
  obtain ⟨e9, hw⟩ := hv
  refine v_heap e9 ?_
  clear e9
  obtain ⟨hw_5, hw_6⟩ := hw
  refine v_if_eq (tgt := 26) dX6_status_14 (by decide) (fun c_3 => ?_) (fun c_4 => ?_)
  · have hw := hw_5 c_3
    refine v_iconst dX6_status_26 ic_m1 ?_
    exact v_iret dX6_status_27 rfl ⟨_, rfl, _, rfl, hw⟩
  · have hw := hw_6 c_4
    refine v_aload_n (q := 0) dX6_status_17 rfl rfl ?_
    refine vm_get hb 1 (Nat.le_of_ble_eq_true rfl) q1615 rfl dX6_status_18 rfl ?_
    refine v_iload_n (q := 1) dX6_status_21 rfl rfl ?_
    obtain ⟨hi_7, hw⟩ := hw
    refine v_iald dX6_status_22 (mH_ar1 hb) hi_7 ?_
    refine v_goto (tgt := 27) dX6_status_23 (by decide) ?_
    exact v_iret dX6_status_27 rfl ⟨_, rfl, _, rfl, hw⟩
theorem met_X6_status {post : (Int32) → (Nat → Int32) → Prop}   {x1 : Int32} {mi : Nat → Int32} {ma : Nat → Nat → Int32} {ml : Nat → Nat → Int64} (hb : mOK b)  (hw : w_X6_status post  x1 mi ma ml) : Mt l E yX6_status (ws_ yX6_status cX6_status 2 (some .int)) r_X6_status [va_rf (some (b 0)), .int x1] (mH b mi ma ml) (vpi (fun (r : Int32) (h' : AH) => ∃ (mi' : Nat → Int32), h' = (mH b mi' ma ml) ∧ post r mi')) := v_entry (by decide +kernel) (Nat.le_of_ble_eq_true rfl) rfl (fun _ => e_X6_status hb hw)
/-! X6_count -/
abbrev r_X6_count : Room := { frames := 1, cells := 0, slots := 0, locals := 25 }
theorem n_X6_count : vdn yX6_count 1 := ⟨by decide +kernel, by decide +kernel, by decide +kernel⟩
def w_X6_count (post : (Int32) → (Nat → Int32) → Prop) (x1 : Int32) (mi : Nat → Int32) (ma : Nat → Nat → Int32) (ml : Nat → Nat → Int64) : Prop :=
 (∀ mi_1 : Nat → Int32, mi_1 = upd mi 0 (nI 0) → (vp_in (nI 0) 3372 ∧ (w_X6_within (fun (z_3 : Int32) => ((z_3 = 0 → (vp_in (nI 223) 3372 ∧ (w_X6_within (fun (z_9 : Int32) => ((z_9 = 0 → ((x1 = (nI 0) → (vp_in (nI 0) 3372 ∧ (post (ma 2 ((nI 0)).toNatClampNeg) mi_1))) ∧ (¬ x1 = (nI 0) → ((x1 = (nI 1) → (vp_in (nI 223) 3372 ∧ (post (ma 2 ((nI 223)).toNatClampNeg) mi_1))) ∧ (¬ x1 = (nI 1) → ((x1 = (nI 2) → (vp_in (nI 162) 3372 ∧ (post (ma 2 ((nI 162)).toNatClampNeg) mi_1))) ∧ (¬ x1 = (nI 2) → ((x1 = (nI 3) → (vp_in (nI 547) 3372 ∧ (post (ma 2 ((nI 547)).toNatClampNeg) mi_1))) ∧ (¬ x1 = (nI 3) → ((x1 = (nI 4) → (vp_in (nI 506) 3372 ∧ (post (ma 2 ((nI 506)).toNatClampNeg) mi_1))) ∧ (¬ x1 = (nI 4) → ((x1 = (nI 5) → (vp_in (nI 848) 3372 ∧ (post (ma 2 ((nI 848)).toNatClampNeg) mi_1))) ∧ (¬ x1 = (nI 5) → ((x1 = (nI 6) → (vp_in (nI 889) 3372 ∧ (post (ma 2 ((nI 889)).toNatClampNeg) mi_1))) ∧ (¬ x1 = (nI 6) → ((x1 = (nI 7) → (vp_in (nI 970) 3372 ∧ (post (ma 2 ((nI 970)).toNatClampNeg) mi_1))) ∧ (¬ x1 = (nI 7) → ((x1 = (nI 8) → (vp_in (nI 987) 3372 ∧ (post (ma 2 ((nI 987)).toNatClampNeg) mi_1))) ∧ (¬ x1 = (nI 8) → ((x1 = (nI 9) → (vp_in (nI 0) 2580 ∧ (post (ma 6 ((nI 0)).toNatClampNeg) mi_1))) ∧ (¬ x1 = (nI 9) → ((x1 = (nI 10) → (vp_in (nI 0) 116 ∧ (post (ma 7 ((nI 0)).toNatClampNeg) mi_1))) ∧ (¬ x1 = (nI 10) → ((x1 = (nI 11) → (post (mi_1 9) mi_1)) ∧ (¬ x1 = (nI 11) → ((x1 = (nI 12) → (vp_in (nI 161) 3372 ∧ (post (ma 2 ((nI 161)).toNatClampNeg) mi_1))) ∧ (¬ x1 = (nI 12) → (post (-1) mi_1)))))))))))))))))))))))))))) ∧ (¬ z_9 = 0 → (vp_in (((nI 236) + x1) - (nI 200)) 3372 ∧ (post (ma 2 ((((nI 236) + x1) - (nI 200))).toNatClampNeg) mi_1))))) ((x1).toInt64) (lN 200) ((((nI 199) + (ma 2 ((nI 223)).toNatClampNeg))).toInt64)))) ∧ (¬ z_3 = 0 → (vp_in (((nI 121) + x1) - (nI 100)) 3372 ∧ (post (ma 2 ((((nI 121) + x1) - (nI 100))).toNatClampNeg) mi_1))))) ((x1).toInt64) (lN 100) ((((nI 99) + (ma 2 ((nI 0)).toNatClampNeg))).toInt64))))
theorem e_X6_count {post : (Int32) → (Nat → Int32) → Prop}   {x1 : Int32} {mi : Nat → Int32} {ma : Nat → Nat → Int32} {ml : Nat → Nat → Int64} (hb : mOK b)  (hw : w_X6_count post  x1 mi ma ml) : VV l E X cX6_count RX6 "count" 2 r_X6_count (some .int) (vpi (fun (r : Int32) (h' : AH) => ∃ (mi' : Nat → Int32), h' = (mH b mi' ma ml) ∧ post r mi')) (mH b mi ma ml) 0 0 0 [(0, va_rf (some (b 0))), (1, .int x1)] [] := by
  refine v_aload_n (q := 0) dX6_count_0 rfl rfl ?_
  refine v_iconst dX6_count_1 ic_0 ?_
  obtain ⟨mi_1, emi_1⟩ : ∃ z9 : Nat → Int32, z9 = upd mi 0 (nI 0) := ⟨_, rfl⟩
  replace hw := hw mi_1 emi_1
  refine vm_put hb 0 (Nat.le_of_ble_eq_true rfl) q1614 rfl rfl rfl dX6_count_2 emi_1 rfl ?_
  refine v_iload_n (q := 1) dX6_count_5 rfl rfl ?_
  refine v_i2l dX6_count_6 ?_
  refine v_ldc2 (v := (lN 100)) dX6_count_7 q1770 ?_
  refine v_bipush dX6_count_10 bp_99 ?_
  refine v_aload_n (q := 0) dX6_count_12 rfl rfl ?_
  refine vm_get hb 2 (Nat.le_of_ble_eq_true rfl) q1616 rfl dX6_count_13 rfl ?_
  refine v_iconst dX6_count_16 ic_0 ?_
  obtain ⟨hi_2, hw⟩ := hw
  refine v_iald dX6_count_17 (mH_ar2 hb) hi_2 ?_
  refine v_iadd dX6_count_18 ?_
  refine v_i2l dX6_count_19 ?_
  refine v_callS q1734 q1735 q113 q1736 n_X6_within ⟨Nat.le_of_ble_eq_true rfl, Nat.le_of_ble_eq_true rfl⟩ [.long ((x1).toInt64), .long (lN 100), .long ((((nI 99) + (ma 2 ((nI 0)).toNatClampNeg))).toInt64)] [] (met_X6_within hw) rfl (Nat.zero_le _) ⟨Nat.le_refl _, Nat.le_refl _⟩ dX6_count_20 rfl (v_ki (fun z_3 h1 hv => ?_))
  clear hw
  obtain ⟨e9, hw⟩ := hv
  refine v_heap e9 ?_
  clear e9
  obtain ⟨hw_6, hw_7⟩ := hw
  refine v_if_eq (tgt := 39) dX6_count_23 (by decide) (fun c_4 => ?_) (fun c_5 => ?_)
  · have hw := hw_6 c_4
    refine v_iload_n (q := 1) dX6_count_39 rfl rfl ?_
    refine v_i2l dX6_count_40 ?_
    refine v_ldc2 (v := (lN 200)) dX6_count_41 q2163 ?_
    refine v_sipush dX6_count_44 sp_199 ?_
    refine v_aload_n (q := 0) dX6_count_47 rfl rfl ?_
    refine vm_get hb 2 (Nat.le_of_ble_eq_true rfl) q1616 rfl dX6_count_48 rfl ?_
    refine v_sipush dX6_count_51 sp_223 ?_
    obtain ⟨hi_8, hw⟩ := hw
    refine v_iald dX6_count_54 (mH_ar2 hb) hi_8 ?_
    refine v_iadd dX6_count_55 ?_
    refine v_i2l dX6_count_56 ?_
    refine v_callS q1734 q1735 q113 q1736 n_X6_within ⟨Nat.le_of_ble_eq_true rfl, Nat.le_of_ble_eq_true rfl⟩ [.long ((x1).toInt64), .long (lN 200), .long ((((nI 199) + (ma 2 ((nI 223)).toNatClampNeg))).toInt64)] [] (met_X6_within hw) rfl (Nat.zero_le _) ⟨Nat.le_refl _, Nat.le_refl _⟩ dX6_count_57 rfl (v_ki (fun z_9 h1 hv => ?_))
    clear hw
    obtain ⟨e9, hw⟩ := hv
    refine v_heap e9 ?_
    clear e9
    obtain ⟨hw_12, hw_13⟩ := hw
    refine v_if_eq (tgt := 78) dX6_count_60 (by decide) (fun c_10 => ?_) (fun c_11 => ?_)
    · have hw := hw_12 c_10
      refine v_iload_n (q := 1) dX6_count_78 rfl rfl ?_
      obtain ⟨hw_16, hw_17⟩ := hw
      by_cases c_14 : x1 = (nI 0)
      · have hw := hw_16 c_14
        refine v_tswIn (off := 65) (tgt := 144) dX6_count_79 (by rw [c_14]; decide) (by rw [c_14]; decide) (by rw [c_14]; rfl) (by decide) ?_
        refine v_aload_n (q := 0) dX6_count_144 rfl rfl ?_
        refine vm_get hb 2 (Nat.le_of_ble_eq_true rfl) q1616 rfl dX6_count_145 rfl ?_
        refine v_iconst dX6_count_148 ic_0 ?_
        obtain ⟨hi_18, hw⟩ := hw
        refine v_iald dX6_count_149 (mH_ar2 hb) hi_18 ?_
        exact v_iret dX6_count_150 rfl ⟨_, rfl, _, rfl, hw⟩
      have hw := hw_17 c_14
      obtain ⟨hw_21, hw_22⟩ := hw
      by_cases c_19 : x1 = (nI 1)
      · have hw := hw_21 c_19
        refine v_tswIn (off := 72) (tgt := 151) dX6_count_79 (by rw [c_19]; decide) (by rw [c_19]; decide) (by rw [c_19]; rfl) (by decide) ?_
        refine v_aload_n (q := 0) dX6_count_151 rfl rfl ?_
        refine vm_get hb 2 (Nat.le_of_ble_eq_true rfl) q1616 rfl dX6_count_152 rfl ?_
        refine v_sipush dX6_count_155 sp_223 ?_
        obtain ⟨hi_23, hw⟩ := hw
        refine v_iald dX6_count_158 (mH_ar2 hb) hi_23 ?_
        exact v_iret dX6_count_159 rfl ⟨_, rfl, _, rfl, hw⟩
      have hw := hw_22 c_19
      obtain ⟨hw_26, hw_27⟩ := hw
      by_cases c_24 : x1 = (nI 2)
      · have hw := hw_26 c_24
        refine v_tswIn (off := 81) (tgt := 160) dX6_count_79 (by rw [c_24]; decide) (by rw [c_24]; decide) (by rw [c_24]; rfl) (by decide) ?_
        refine v_aload_n (q := 0) dX6_count_160 rfl rfl ?_
        refine vm_get hb 2 (Nat.le_of_ble_eq_true rfl) q1616 rfl dX6_count_161 rfl ?_
        refine v_sipush dX6_count_164 sp_162 ?_
        obtain ⟨hi_28, hw⟩ := hw
        refine v_iald dX6_count_167 (mH_ar2 hb) hi_28 ?_
        exact v_iret dX6_count_168 rfl ⟨_, rfl, _, rfl, hw⟩
      have hw := hw_27 c_24
      obtain ⟨hw_31, hw_32⟩ := hw
      by_cases c_29 : x1 = (nI 3)
      · have hw := hw_31 c_29
        refine v_tswIn (off := 90) (tgt := 169) dX6_count_79 (by rw [c_29]; decide) (by rw [c_29]; decide) (by rw [c_29]; rfl) (by decide) ?_
        refine v_aload_n (q := 0) dX6_count_169 rfl rfl ?_
        refine vm_get hb 2 (Nat.le_of_ble_eq_true rfl) q1616 rfl dX6_count_170 rfl ?_
        refine v_sipush dX6_count_173 sp_547 ?_
        obtain ⟨hi_33, hw⟩ := hw
        refine v_iald dX6_count_176 (mH_ar2 hb) hi_33 ?_
        exact v_iret dX6_count_177 rfl ⟨_, rfl, _, rfl, hw⟩
      have hw := hw_32 c_29
      obtain ⟨hw_36, hw_37⟩ := hw
      by_cases c_34 : x1 = (nI 4)
      · have hw := hw_36 c_34
        refine v_tswIn (off := 99) (tgt := 178) dX6_count_79 (by rw [c_34]; decide) (by rw [c_34]; decide) (by rw [c_34]; rfl) (by decide) ?_
        refine v_aload_n (q := 0) dX6_count_178 rfl rfl ?_
        refine vm_get hb 2 (Nat.le_of_ble_eq_true rfl) q1616 rfl dX6_count_179 rfl ?_
        refine v_sipush dX6_count_182 sp_506 ?_
        obtain ⟨hi_38, hw⟩ := hw
        refine v_iald dX6_count_185 (mH_ar2 hb) hi_38 ?_
        exact v_iret dX6_count_186 rfl ⟨_, rfl, _, rfl, hw⟩
      have hw := hw_37 c_34
      obtain ⟨hw_41, hw_42⟩ := hw
      by_cases c_39 : x1 = (nI 5)
      · have hw := hw_41 c_39
        refine v_tswIn (off := 108) (tgt := 187) dX6_count_79 (by rw [c_39]; decide) (by rw [c_39]; decide) (by rw [c_39]; rfl) (by decide) ?_
        refine v_aload_n (q := 0) dX6_count_187 rfl rfl ?_
        refine vm_get hb 2 (Nat.le_of_ble_eq_true rfl) q1616 rfl dX6_count_188 rfl ?_
        refine v_sipush dX6_count_191 sp_848 ?_
        obtain ⟨hi_43, hw⟩ := hw
        refine v_iald dX6_count_194 (mH_ar2 hb) hi_43 ?_
        exact v_iret dX6_count_195 rfl ⟨_, rfl, _, rfl, hw⟩
      have hw := hw_42 c_39
      obtain ⟨hw_46, hw_47⟩ := hw
      by_cases c_44 : x1 = (nI 6)
      · have hw := hw_46 c_44
        refine v_tswIn (off := 117) (tgt := 196) dX6_count_79 (by rw [c_44]; decide) (by rw [c_44]; decide) (by rw [c_44]; rfl) (by decide) ?_
        refine v_aload_n (q := 0) dX6_count_196 rfl rfl ?_
        refine vm_get hb 2 (Nat.le_of_ble_eq_true rfl) q1616 rfl dX6_count_197 rfl ?_
        refine v_sipush dX6_count_200 sp_889 ?_
        obtain ⟨hi_48, hw⟩ := hw
        refine v_iald dX6_count_203 (mH_ar2 hb) hi_48 ?_
        exact v_iret dX6_count_204 rfl ⟨_, rfl, _, rfl, hw⟩
      have hw := hw_47 c_44
      obtain ⟨hw_51, hw_52⟩ := hw
      by_cases c_49 : x1 = (nI 7)
      · have hw := hw_51 c_49
        refine v_tswIn (off := 126) (tgt := 205) dX6_count_79 (by rw [c_49]; decide) (by rw [c_49]; decide) (by rw [c_49]; rfl) (by decide) ?_
        refine v_aload_n (q := 0) dX6_count_205 rfl rfl ?_
        refine vm_get hb 2 (Nat.le_of_ble_eq_true rfl) q1616 rfl dX6_count_206 rfl ?_
        refine v_sipush dX6_count_209 sp_970 ?_
        obtain ⟨hi_53, hw⟩ := hw
        refine v_iald dX6_count_212 (mH_ar2 hb) hi_53 ?_
        exact v_iret dX6_count_213 rfl ⟨_, rfl, _, rfl, hw⟩
      have hw := hw_52 c_49
      obtain ⟨hw_56, hw_57⟩ := hw
      by_cases c_54 : x1 = (nI 8)
      · have hw := hw_56 c_54
        refine v_tswIn (off := 135) (tgt := 214) dX6_count_79 (by rw [c_54]; decide) (by rw [c_54]; decide) (by rw [c_54]; rfl) (by decide) ?_
        refine v_aload_n (q := 0) dX6_count_214 rfl rfl ?_
        refine vm_get hb 2 (Nat.le_of_ble_eq_true rfl) q1616 rfl dX6_count_215 rfl ?_
        refine v_sipush dX6_count_218 sp_987 ?_
        obtain ⟨hi_58, hw⟩ := hw
        refine v_iald dX6_count_221 (mH_ar2 hb) hi_58 ?_
        exact v_iret dX6_count_222 rfl ⟨_, rfl, _, rfl, hw⟩
      have hw := hw_57 c_54
      obtain ⟨hw_61, hw_62⟩ := hw
      by_cases c_59 : x1 = (nI 9)
      · have hw := hw_61 c_59
        refine v_tswIn (off := 144) (tgt := 223) dX6_count_79 (by rw [c_59]; decide) (by rw [c_59]; decide) (by rw [c_59]; rfl) (by decide) ?_
        refine v_aload_n (q := 0) dX6_count_223 rfl rfl ?_
        refine vm_get hb 6 (Nat.le_of_ble_eq_true rfl) q1620 rfl dX6_count_224 rfl ?_
        refine v_iconst dX6_count_227 ic_0 ?_
        obtain ⟨hi_63, hw⟩ := hw
        refine v_iald dX6_count_228 (mH_ar6 hb) hi_63 ?_
        exact v_iret dX6_count_229 rfl ⟨_, rfl, _, rfl, hw⟩
      have hw := hw_62 c_59
      obtain ⟨hw_66, hw_67⟩ := hw
      by_cases c_64 : x1 = (nI 10)
      · have hw := hw_66 c_64
        refine v_tswIn (off := 151) (tgt := 230) dX6_count_79 (by rw [c_64]; decide) (by rw [c_64]; decide) (by rw [c_64]; rfl) (by decide) ?_
        refine v_aload_n (q := 0) dX6_count_230 rfl rfl ?_
        refine vm_get hb 7 (Nat.le_of_ble_eq_true rfl) q1621 rfl dX6_count_231 rfl ?_
        refine v_iconst dX6_count_234 ic_0 ?_
        obtain ⟨hi_68, hw⟩ := hw
        refine v_iald dX6_count_235 (mH_ar7 hb) hi_68 ?_
        exact v_iret dX6_count_236 rfl ⟨_, rfl, _, rfl, hw⟩
      have hw := hw_67 c_64
      obtain ⟨hw_71, hw_72⟩ := hw
      by_cases c_69 : x1 = (nI 11)
      · have hw := hw_71 c_69
        refine v_tswIn (off := 158) (tgt := 237) dX6_count_79 (by rw [c_69]; decide) (by rw [c_69]; decide) (by rw [c_69]; rfl) (by decide) ?_
        refine v_aload_n (q := 0) dX6_count_237 rfl rfl ?_
        refine vm_get hb 9 (Nat.le_of_ble_eq_true rfl) q1623 rfl dX6_count_238 rfl ?_
        exact v_iret dX6_count_241 rfl ⟨_, rfl, _, rfl, hw⟩
      have hw := hw_72 c_69
      obtain ⟨hw_75, hw_76⟩ := hw
      by_cases c_73 : x1 = (nI 12)
      · have hw := hw_75 c_73
        refine v_tswIn (off := 163) (tgt := 242) dX6_count_79 (by rw [c_73]; decide) (by rw [c_73]; decide) (by rw [c_73]; rfl) (by decide) ?_
        refine v_aload_n (q := 0) dX6_count_242 rfl rfl ?_
        refine vm_get hb 2 (Nat.le_of_ble_eq_true rfl) q1616 rfl dX6_count_243 rfl ?_
        refine v_sipush dX6_count_246 sp_161 ?_
        obtain ⟨hi_77, hw⟩ := hw
        refine v_iald dX6_count_249 (mH_ar2 hb) hi_77 ?_
        exact v_iret dX6_count_250 rfl ⟨_, rfl, _, rfl, hw⟩
      have hw := hw_76 c_73
      refine v_tswOut (tgt := 251) dX6_count_79 (by have := v_swn 0 c_14 (by decide); have := v_swn 1 c_19 (by decide); have := v_swn 2 c_24 (by decide); have := v_swn 3 c_29 (by decide); have := v_swn 4 c_34 (by decide); have := v_swn 5 c_39 (by decide); have := v_swn 6 c_44 (by decide); have := v_swn 7 c_49 (by decide); have := v_swn 8 c_54 (by decide); have := v_swn 9 c_59 (by decide); have := v_swn 10 c_64 (by decide); have := v_swn 11 c_69 (by decide); have := v_swn 12 c_73 (by decide); omega) (by decide) ?_
      refine v_iconst dX6_count_251 ic_m1 ?_
      exact v_iret dX6_count_252 rfl ⟨_, rfl, _, rfl, hw⟩
    · have hw := hw_13 c_11
      refine v_aload_n (q := 0) dX6_count_63 rfl rfl ?_
      refine vm_get hb 2 (Nat.le_of_ble_eq_true rfl) q1616 rfl dX6_count_64 rfl ?_
      refine v_sipush dX6_count_67 sp_236 ?_
      refine v_iload_n (q := 1) dX6_count_70 rfl rfl ?_
      refine v_iadd dX6_count_71 ?_
      refine v_sipush dX6_count_72 sp_200 ?_
      refine v_isub dX6_count_75 ?_
      obtain ⟨hi_78, hw⟩ := hw
      refine v_iald dX6_count_76 (mH_ar2 hb) hi_78 ?_
      exact v_iret dX6_count_77 rfl ⟨_, rfl, _, rfl, hw⟩
  · have hw := hw_7 c_5
    refine v_aload_n (q := 0) dX6_count_26 rfl rfl ?_
    refine vm_get hb 2 (Nat.le_of_ble_eq_true rfl) q1616 rfl dX6_count_27 rfl ?_
    refine v_bipush dX6_count_30 bp_121 ?_
    refine v_iload_n (q := 1) dX6_count_32 rfl rfl ?_
    refine v_iadd dX6_count_33 ?_
    refine v_bipush dX6_count_34 bp_100 ?_
    refine v_isub dX6_count_36 ?_
    obtain ⟨hi_79, hw⟩ := hw
    refine v_iald dX6_count_37 (mH_ar2 hb) hi_79 ?_
    exact v_iret dX6_count_38 rfl ⟨_, rfl, _, rfl, hw⟩
theorem met_X6_count {post : (Int32) → (Nat → Int32) → Prop}   {x1 : Int32} {mi : Nat → Int32} {ma : Nat → Nat → Int32} {ml : Nat → Nat → Int64} (hb : mOK b)  (hw : w_X6_count post  x1 mi ma ml) : Mt l E yX6_count (ws_ yX6_count cX6_count 2 (some .int)) r_X6_count [va_rf (some (b 0)), .int x1] (mH b mi ma ml) (vpi (fun (r : Int32) (h' : AH) => ∃ (mi' : Nat → Int32), h' = (mH b mi' ma ml) ∧ post r mi')) := v_entry (by decide +kernel) (Nat.le_of_ble_eq_true rfl) rfl (fun _ => e_X6_count hb hw)
end WALK
