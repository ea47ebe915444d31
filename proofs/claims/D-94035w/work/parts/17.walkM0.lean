set_option maxRecDepth 100000
section WALK
variable {l : Launch} {E : VE} {X : VX} {b : Nat → Nat}
/-! X6_within -/
abbrev r_X6_within : Room := { frames := 0, cells := 0, slots := 0, locals := 0 }
theorem n_X6_within : vdn yX6_within 3 := ⟨by decide +kernel, by decide +kernel, by decide +kernel⟩
def w_X6_within (post : (Int32) → Prop) (x0 : Int64) (x2 : Int64) (x4 : Int64) : Prop :=
 (((lg_cmp x0 x2) < 0 → (post (nI 0))) ∧ (¬ (lg_cmp x0 x2) < 0 → ((0 < (lg_cmp x0 x4) → (post (nI 0))) ∧ (¬ 0 < (lg_cmp x0 x4) → (post (nI 1))))))
theorem e_X6_within {post : (Int32) → Prop}   {x0 : Int64} {x2 : Int64} {x4 : Int64} {h : AH}  (hw : w_X6_within post  x0 x2 x4) : VV l E X cX6_within RX6 "within" 6 r_X6_within (some .boolean) (vpi (fun (r : Int32) (h' : AH) => h' = h ∧ post r)) h 0 0 0 [(0, .long x0), (2, .long x2), (4, .long x4)] [] := by
  refine v_lload_n (q := 0) dX6_within_0 rfl rfl ?_
  refine v_lload_n (q := 1) dX6_within_1 rfl rfl ?_
  refine v_lcmp dX6_within_2 ?_
  obtain ⟨hw_3, hw_4⟩ := hw
  refine v_if_lt (tgt := 17) dX6_within_3 (by decide) (fun c_1 => ?_) (fun c_2 => ?_)
  · have hw := hw_3 c_1
    refine v_iconst dX6_within_17 ic_0 ?_
    exact v_zret dX6_within_18 rfl rfl ⟨_, rfl, rfl, hw⟩
  · have hw := hw_4 c_2
    refine v_lload_n (q := 0) dX6_within_6 rfl rfl ?_
    refine v_lload (q := 2) dX6_within_7 rfl ?_
    refine v_lcmp dX6_within_9 ?_
    obtain ⟨hw_7, hw_8⟩ := hw
    refine v_if_gt (tgt := 17) dX6_within_10 (by decide) (fun c_5 => ?_) (fun c_6 => ?_)
    · have hw := hw_7 c_5
      refine v_iconst dX6_within_17 ic_0 ?_
      exact v_zret dX6_within_18 rfl rfl ⟨_, rfl, rfl, hw⟩
    · have hw := hw_8 c_6
      refine v_iconst dX6_within_13 ic_1 ?_
      refine v_goto (tgt := 18) dX6_within_14 (by decide) ?_
      exact v_zret dX6_within_18 rfl rfl ⟨_, rfl, rfl, hw⟩
theorem met_X6_within {post : (Int32) → Prop}   {x0 : Int64} {x2 : Int64} {x4 : Int64} {h : AH}  (hw : w_X6_within post  x0 x2 x4) : Mt l E yX6_within (ws_ yX6_within cX6_within 6 (some .boolean)) r_X6_within [.long x0, .long x2, .long x4] h (vpi (fun (r : Int32) (h' : AH) => h' = h ∧ post r)) := v_entry (by decide +kernel) (Nat.le_of_ble_eq_true rfl) rfl (fun _ => e_X6_within hw)
/-! X6_no -/
abbrev r_X6_no : Room := { frames := 0, cells := 0, slots := 0, locals := 0 }
theorem n_X6_no : vdn yX6_no 1 := ⟨by decide +kernel, by decide +kernel, by decide +kernel⟩
def w_X6_no (post : (Int32) → (Nat → Nat → Int32) → Prop) (x1 : Int32) (mi : Nat → Int32) (ma : Nat → Nat → Int32) (ml : Nat → Nat → Int64) : Prop :=
 (vp_in (-x1) 8 ∧ (vp_in (-x1) 8 ∧ ∀ ma_3 : Nat → Nat → Int32, ma_3 = mup ma 1 ((-x1)).toNatClampNeg ((ma 1 ((-x1)).toNatClampNeg) + (nI 1)) → (post x1 ma_3)))
theorem e_X6_no {post : (Int32) → (Nat → Nat → Int32) → Prop}   {x1 : Int32} {mi : Nat → Int32} {ma : Nat → Nat → Int32} {ml : Nat → Nat → Int64} (hb : mOK b)  (hw : w_X6_no post  x1 mi ma ml) : VV l E X cX6_no RX6 "no" 2 r_X6_no (some .int) (vpi (fun (r : Int32) (h' : AH) => ∃ (ma' : Nat → Nat → Int32), h' = (mH b mi ma' ml) ∧ post r ma')) (mH b mi ma ml) 0 0 0 [(0, va_rf (some (b 0))), (1, .int x1)] [] := by
  refine v_aload_n (q := 0) dX6_no_0 rfl rfl ?_
  refine vm_get hb 1 (Nat.le_of_ble_eq_true rfl) q1615 rfl dX6_no_1 rfl ?_
  refine v_iload_n (q := 1) dX6_no_4 rfl rfl ?_
  refine v_ineg dX6_no_5 ?_
  refine v_dup2 dX6_no_6 rfl (v_rf1 _) ?_
  obtain ⟨hi_1, hw⟩ := hw
  refine v_iald dX6_no_7 (mH_ar1 hb) hi_1 ?_
  refine v_iconst dX6_no_8 ic_1 ?_
  refine v_iadd dX6_no_9 ?_
  obtain ⟨hi_2, hw⟩ := hw
  obtain ⟨ma_3, ema_3⟩ : ∃ z9 : Nat → Nat → Int32, z9 = mup ma 1 ((-x1)).toNatClampNeg ((ma 1 ((-x1)).toNatClampNeg) + (nI 1)) := ⟨_, rfl⟩
  replace hw := hw ma_3 ema_3
  refine v_iast dX6_no_10 (mH_ar1 hb) hi_2 ?_
  refine v_heap (h' := mH b mi ma_3 ml) (by rw [ema_3]; exact mH_st1 hb) ?_
  refine v_iload_n (q := 1) dX6_no_11 rfl rfl ?_
  exact v_iret dX6_no_12 rfl ⟨_, rfl, _, rfl, hw⟩
theorem met_X6_no {post : (Int32) → (Nat → Nat → Int32) → Prop}   {x1 : Int32} {mi : Nat → Int32} {ma : Nat → Nat → Int32} {ml : Nat → Nat → Int64} (hb : mOK b)  (hw : w_X6_no post  x1 mi ma ml) : Mt l E yX6_no (ws_ yX6_no cX6_no 2 (some .int)) r_X6_no [va_rf (some (b 0)), .int x1] (mH b mi ma ml) (vpi (fun (r : Int32) (h' : AH) => ∃ (ma' : Nat → Nat → Int32), h' = (mH b mi ma' ml) ∧ post r ma')) := v_entry (by decide +kernel) (Nat.le_of_ble_eq_true rfl) rfl (fun _ => e_X6_no hb hw)
/-! X6_opens -/
abbrev r_X6_opens : Room := { frames := 0, cells := 0, slots := 0, locals := 0 }
theorem n_X6_opens : vdn yX6_opens 3 := ⟨by decide +kernel, by decide +kernel, by decide +kernel⟩
def w_X6_opens (post : (Int32) → (Nat → Nat → Int32) → Prop) (x1 : Int32) (x2 : Int32) (x3 : Int32) (mi : Nat → Int32) (ma : Nat → Nat → Int32) (ml : Nat → Nat → Int64) : Prop :=
 (vp_in (nI 0) 3372 ∧ (∀ z_2 : Int32, z_2 = (ma 2 ((nI 0)).toNatClampNeg) → (vp_in ((nI 1) + z_2) 3372 ∧ ∀ ma_4 : Nat → Nat → Int32, ma_4 = mup ma 2 (((nI 1) + z_2)).toNatClampNeg x1 → (vp_in ((nI 41) + z_2) 3372 ∧ ∀ ma_6 : Nat → Nat → Int32, ma_6 = mup ma_4 2 (((nI 41) + z_2)).toNatClampNeg x2 → (vp_in ((nI 81) + z_2) 3372 ∧ ∀ ma_8 : Nat → Nat → Int32, ma_8 = mup ma_6 2 (((nI 81) + z_2)).toNatClampNeg x3 → (vp_in ((nI 121) + z_2) 3372 ∧ ∀ ma_10 : Nat → Nat → Int32, ma_10 = mup ma_8 2 (((nI 121) + z_2)).toNatClampNeg (nI 0) → (vp_in (nI 0) 3372 ∧ (vp_in (nI 0) 3372 ∧ ∀ ma_13 : Nat → Nat → Int32, ma_13 = mup ma_10 2 ((nI 0)).toNatClampNeg ((ma_10 2 ((nI 0)).toNatClampNeg) + (nI 1)) → (post z_2 ma_13)))))))))
theorem e_X6_opens {post : (Int32) → (Nat → Nat → Int32) → Prop}   {x1 : Int32} {x2 : Int32} {x3 : Int32} {mi : Nat → Int32} {ma : Nat → Nat → Int32} {ml : Nat → Nat → Int64} (hb : mOK b)  (hw : w_X6_opens post  x1 x2 x3 mi ma ml) : VV l E X cX6_opens RX6 "opens" 5 r_X6_opens (some .int) (vpi (fun (r : Int32) (h' : AH) => ∃ (ma' : Nat → Nat → Int32), h' = (mH b mi ma' ml) ∧ post r ma')) (mH b mi ma ml) 0 0 0 [(0, va_rf (some (b 0))), (1, .int x1), (2, .int x2), (3, .int x3)] [] := by
  refine v_aload_n (q := 0) dX6_opens_0 rfl rfl ?_
  refine vm_get hb 2 (Nat.le_of_ble_eq_true rfl) q1616 rfl dX6_opens_1 rfl ?_
  refine v_iconst dX6_opens_4 ic_0 ?_
  obtain ⟨hi_1, hw⟩ := hw
  refine v_iald dX6_opens_5 (mH_ar2 hb) hi_1 ?_
  refine v_topi (fun z_2 e_2 => ?_)
  replace hw := hw z_2 e_2
  refine v_istore (lv1 := [(4, .int z_2), (0, va_rf (some (b 0))), (1, .int x1), (2, .int x2), (3, .int x3)]) dX6_opens_6 (Nat.le_of_ble_eq_true rfl) rfl ?_
  refine v_aload_n (q := 1) dX6_opens_8 rfl rfl ?_
  refine vm_get hb 2 (Nat.le_of_ble_eq_true rfl) q1616 rfl dX6_opens_9 rfl ?_
  refine v_iconst dX6_opens_12 ic_1 ?_
  refine v_iload (q := 0) dX6_opens_13 rfl ?_
  refine v_iadd dX6_opens_15 ?_
  refine v_iload_n (q := 2) dX6_opens_16 rfl rfl ?_
  obtain ⟨hi_3, hw⟩ := hw
  obtain ⟨ma_4, ema_4⟩ : ∃ z9 : Nat → Nat → Int32, z9 = mup ma 2 (((nI 1) + z_2)).toNatClampNeg x1 := ⟨_, rfl⟩
  replace hw := hw ma_4 ema_4
  refine v_iast dX6_opens_17 (mH_ar2 hb) hi_3 ?_
  refine v_heap (h' := mH b mi ma_4 ml) (by rw [ema_4]; exact mH_st2 hb) ?_
  refine v_aload_n (q := 1) dX6_opens_18 rfl rfl ?_
  refine vm_get hb 2 (Nat.le_of_ble_eq_true rfl) q1616 rfl dX6_opens_19 rfl ?_
  refine v_bipush dX6_opens_22 bp_41 ?_
  refine v_iload (q := 0) dX6_opens_24 rfl ?_
  refine v_iadd dX6_opens_26 ?_
  refine v_iload_n (q := 3) dX6_opens_27 rfl rfl ?_
  obtain ⟨hi_5, hw⟩ := hw
  obtain ⟨ma_6, ema_6⟩ : ∃ z9 : Nat → Nat → Int32, z9 = mup ma_4 2 (((nI 41) + z_2)).toNatClampNeg x2 := ⟨_, rfl⟩
  replace hw := hw ma_6 ema_6
  refine v_iast dX6_opens_28 (mH_ar2 hb) hi_5 ?_
  refine v_heap (h' := mH b mi ma_6 ml) (by rw [ema_6]; exact mH_st2 hb) ?_
  refine v_aload_n (q := 1) dX6_opens_29 rfl rfl ?_
  refine vm_get hb 2 (Nat.le_of_ble_eq_true rfl) q1616 rfl dX6_opens_30 rfl ?_
  refine v_bipush dX6_opens_33 bp_81 ?_
  refine v_iload (q := 0) dX6_opens_35 rfl ?_
  refine v_iadd dX6_opens_37 ?_
  refine v_iload_n (q := 4) dX6_opens_38 rfl rfl ?_
  obtain ⟨hi_7, hw⟩ := hw
  obtain ⟨ma_8, ema_8⟩ : ∃ z9 : Nat → Nat → Int32, z9 = mup ma_6 2 (((nI 81) + z_2)).toNatClampNeg x3 := ⟨_, rfl⟩
  replace hw := hw ma_8 ema_8
  refine v_iast dX6_opens_39 (mH_ar2 hb) hi_7 ?_
  refine v_heap (h' := mH b mi ma_8 ml) (by rw [ema_8]; exact mH_st2 hb) ?_
  refine v_aload_n (q := 1) dX6_opens_40 rfl rfl ?_
  refine vm_get hb 2 (Nat.le_of_ble_eq_true rfl) q1616 rfl dX6_opens_41 rfl ?_
  refine v_bipush dX6_opens_44 bp_121 ?_
  refine v_iload (q := 0) dX6_opens_46 rfl ?_
  refine v_iadd dX6_opens_48 ?_
  refine v_iconst dX6_opens_49 ic_0 ?_
  obtain ⟨hi_9, hw⟩ := hw
  obtain ⟨ma_10, ema_10⟩ : ∃ z9 : Nat → Nat → Int32, z9 = mup ma_8 2 (((nI 121) + z_2)).toNatClampNeg (nI 0) := ⟨_, rfl⟩
  replace hw := hw ma_10 ema_10
  refine v_iast dX6_opens_50 (mH_ar2 hb) hi_9 ?_
  refine v_heap (h' := mH b mi ma_10 ml) (by rw [ema_10]; exact mH_st2 hb) ?_
  refine v_aload_n (q := 1) dX6_opens_51 rfl rfl ?_
  refine vm_get hb 2 (Nat.le_of_ble_eq_true rfl) q1616 rfl dX6_opens_52 rfl ?_
  refine v_iconst dX6_opens_55 ic_0 ?_
  refine v_dup2 dX6_opens_56 rfl (v_rf1 _) ?_
  obtain ⟨hi_11, hw⟩ := hw
  refine v_iald dX6_opens_57 (mH_ar2 hb) hi_11 ?_
  refine v_iconst dX6_opens_58 ic_1 ?_
  refine v_iadd dX6_opens_59 ?_
  obtain ⟨hi_12, hw⟩ := hw
  obtain ⟨ma_13, ema_13⟩ : ∃ z9 : Nat → Nat → Int32, z9 = mup ma_10 2 ((nI 0)).toNatClampNeg ((ma_10 2 ((nI 0)).toNatClampNeg) + (nI 1)) := ⟨_, rfl⟩
  replace hw := hw ma_13 ema_13
  refine v_iast dX6_opens_60 (mH_ar2 hb) hi_12 ?_
  refine v_heap (h' := mH b mi ma_13 ml) (by rw [ema_13]; exact mH_st2 hb) ?_
  refine v_iload (q := 0) dX6_opens_61 rfl ?_
  exact v_iret dX6_opens_63 rfl ⟨_, rfl, _, rfl, hw⟩
theorem met_X6_opens {post : (Int32) → (Nat → Nat → Int32) → Prop}   {x1 : Int32} {x2 : Int32} {x3 : Int32} {mi : Nat → Int32} {ma : Nat → Nat → Int32} {ml : Nat → Nat → Int64} (hb : mOK b)  (hw : w_X6_opens post  x1 x2 x3 mi ma ml) : Mt l E yX6_opens (ws_ yX6_opens cX6_opens 5 (some .int)) r_X6_opens [va_rf (some (b 0)), .int x1, .int x2, .int x3] (mH b mi ma ml) (vpi (fun (r : Int32) (h' : AH) => ∃ (ma' : Nat → Nat → Int32), h' = (mH b mi ma' ml) ∧ post r ma')) := v_entry (by decide +kernel) (Nat.le_of_ble_eq_true rfl) rfl (fun _ => e_X6_opens hb hw)
/-! X6_open -/
abbrev r_X6_open : Room := { frames := 1, cells := 0, slots := 0, locals := 25 }
theorem n_X6_open : vdn yX6_open 4 := ⟨by decide +kernel, by decide +kernel, by decide +kernel⟩
def w_X6_open_78 (post : (Int32) → (Nat → Int32) → (Nat → Nat → Int32) → Prop) (x1 : Int32) (x2 : Int32) (x3 : Int32) (x4 : Int32) (ml : Nat → Nat → Int64) (mi : Nat → Int32) (ma : Nat → Nat → Int32) : Prop :=
 (w_X6_no (fun (z_1 : Int32) (ma_2 : Nat → Nat → Int32) => (post z_1 mi ma_2)) (-3) mi ma ml)
def w_X6_open_116 (post : (Int32) → (Nat → Int32) → (Nat → Nat → Int32) → Prop) (x1 : Int32) (x2 : Int32) (x3 : Int32) (x4 : Int32) (ml : Nat → Nat → Int64) (mi : Nat → Int32) (ma : Nat → Nat → Int32) : Prop :=
 (w_X6_no (fun (z_3 : Int32) (ma_4 : Nat → Nat → Int32) => (post z_3 mi ma_4)) (-4) mi ma ml)
def w_X6_open_123 (post : (Int32) → (Nat → Int32) → (Nat → Nat → Int32) → Prop) (x1 : Int32) (x2 : Int32) (x3 : Int32) (x4 : Int32) (ml : Nat → Nat → Int64) (mi : Nat → Int32) (ma : Nat → Nat → Int32) : Prop :=
 ((¬ x1 = (nI 1) → (w_X6_opens (fun (z_9 : Int32) (ma_10 : Nat → Nat → Int32) => (post z_9 mi ma_10)) x2 x3 x4 mi ma ml)) ∧ (x1 = (nI 1) → (vp_in (nI 223) 3372 ∧ (vp_in ((nI 224) + (ma 2 ((nI 223)).toNatClampNeg)) 3372 ∧ ∀ ma_13 : Nat → Nat → Int32, ma_13 = mup ma 2 (((nI 224) + (ma 2 ((nI 223)).toNatClampNeg))).toNatClampNeg x2 → (vp_in (nI 223) 3372 ∧ (vp_in ((nI 236) + (ma_13 2 ((nI 223)).toNatClampNeg)) 3372 ∧ ∀ ma_16 : Nat → Nat → Int32, ma_16 = mup ma_13 2 (((nI 236) + (ma_13 2 ((nI 223)).toNatClampNeg))).toNatClampNeg (nI 0) → (vp_in (nI 223) 3372 ∧ (vp_in (nI 223) 3372 ∧ ∀ ma_19 : Nat → Nat → Int32, ma_19 = mup ma_16 2 ((nI 223)).toNatClampNeg ((ma_16 2 ((nI 223)).toNatClampNeg) + (nI 1)) → (vp_in (nI 223) 3372 ∧ (post ((ma_19 2 ((nI 223)).toNatClampNeg) - (nI 1)) mi ma_19))))))))))
def w_X6_open_85 (post : (Int32) → (Nat → Int32) → (Nat → Nat → Int32) → Prop) (x1 : Int32) (x2 : Int32) (x3 : Int32) (x4 : Int32) (ml : Nat → Nat → Int64) (mi : Nat → Int32) (ma : Nat → Nat → Int32) : Prop :=
 ((¬ x1 = 0 → (vp_in (nI 223) 3372 ∧ ((¬ (ma 2 ((nI 223)).toNatClampNeg) = (nI 12) → (w_X6_open_123 post x1 x2 x3 x4 ml mi ma)) ∧ ((ma 2 ((nI 223)).toNatClampNeg) = (nI 12) → (w_X6_open_116 post x1 x2 x3 x4 ml mi ma))))) ∧ (x1 = 0 → (vp_in (nI 0) 3372 ∧ ((¬ (ma 2 ((nI 0)).toNatClampNeg) = (nI 40) → (w_X6_open_123 post x1 x2 x3 x4 ml mi ma)) ∧ ((ma 2 ((nI 0)).toNatClampNeg) = (nI 40) → (w_X6_open_116 post x1 x2 x3 x4 ml mi ma))))))
def w_X6_open (post : (Int32) → (Nat → Int32) → (Nat → Nat → Int32) → Prop) (x1 : Int32) (x2 : Int32) (x3 : Int32) (x4 : Int32) (mi : Nat → Int32) (ma : Nat → Nat → Int32) (ml : Nat → Nat → Int64) : Prop :=
 (∀ mi_35 : Nat → Int32, mi_35 = upd mi 0 (nI 0) → (w_X6_within (fun (z_36 : Int32) => ((¬ z_36 = 0 → ((¬ x1 = 0 → (w_X6_within (fun (z_45 : Int32) => ((¬ z_45 = 0 → (w_X6_open_85 post x1 x2 x3 x4 ml mi_35 ma)) ∧ (z_45 = 0 → (w_X6_open_78 post x1 x2 x3 x4 ml mi_35 ma)))) ((x2).toInt64) (lN 0) (lN 5))) ∧ (x1 = 0 → (w_X6_within (fun (z_50 : Int32) => ((z_50 = 0 → (w_X6_open_78 post x1 x2 x3 x4 ml mi_35 ma)) ∧ (¬ z_50 = 0 → (w_X6_within (fun (z_55 : Int32) => ((z_55 = 0 → (w_X6_open_78 post x1 x2 x3 x4 ml mi_35 ma)) ∧ (¬ z_55 = 0 → (w_X6_within (fun (z_60 : Int32) => ((¬ z_60 = 0 → (w_X6_open_85 post x1 x2 x3 x4 ml mi_35 ma)) ∧ (z_60 = 0 → (w_X6_open_78 post x1 x2 x3 x4 ml mi_35 ma)))) ((x4).toInt64) (lN 0) (lN 9999))))) ((x3).toInt64) (lN 0) (lN 15))))) ((x2).toInt64) (lN 0) (lN 9))))) ∧ (z_36 = 0 → (w_X6_no (fun (z_65 : Int32) (ma_66 : Nat → Nat → Int32) => (post z_65 mi_35 ma_66)) (-2) mi_35 ma ml)))) ((x1).toInt64) (lN 0) (lN 1)))
theorem b_X6_open_78 {post : (Int32) → (Nat → Int32) → (Nat → Nat → Int32) → Prop}   {x1 : Int32} {x2 : Int32} {x3 : Int32} {x4 : Int32} {ml : Nat → Nat → Int64}  (hb : mOK b)   (mi : Nat → Int32) (ma : Nat → Nat → Int32) (hw : w_X6_open_78 post x1 x2 x3 x4 ml mi ma) : VV l E X cX6_open RX6 "open" 5 r_X6_open (some .int) (vpi (fun (r : Int32) (h' : AH) => ∃ (mi' : Nat → Int32) (ma' : Nat → Nat → Int32), h' = (mH b mi' ma' ml) ∧ post r mi' ma')) (mH b mi ma ml) 0 0 78 [(0, va_rf (some (b 0))), (1, .int x1), (2, .int x2), (3, .int x3), (4, .int x4)] [] := by
  refine v_aload_n (q := 0) dX6_open_78 rfl rfl ?_
  refine v_bipush dX6_open_79 bp_m3 ?_
  refine v_callV q1737 q1739 qs53 q113 q1740 (ci := 7) rfl (mH_obj hb) n_X6_no ⟨Nat.le_of_ble_eq_true rfl, Nat.le_of_ble_eq_true rfl⟩ [.int (-3)] [] (met_X6_no hb hw) rfl (Nat.zero_le _) ⟨Nat.le_refl _, Nat.le_refl _⟩ dX6_open_81 rfl (v_ki (fun z_1 h1 hv => ?_))
  clear hw
  obtain ⟨ma_2, rfl, hw⟩ := hv
  exact v_iret dX6_open_84 rfl ⟨_, rfl, _, _, rfl, hw⟩
theorem b_X6_open_116 {post : (Int32) → (Nat → Int32) → (Nat → Nat → Int32) → Prop}   {x1 : Int32} {x2 : Int32} {x3 : Int32} {x4 : Int32} {ml : Nat → Nat → Int64}  (hb : mOK b)   (mi : Nat → Int32) (ma : Nat → Nat → Int32) (hw : w_X6_open_116 post x1 x2 x3 x4 ml mi ma) : VV l E X cX6_open RX6 "open" 5 r_X6_open (some .int) (vpi (fun (r : Int32) (h' : AH) => ∃ (mi' : Nat → Int32) (ma' : Nat → Nat → Int32), h' = (mH b mi' ma' ml) ∧ post r mi' ma')) (mH b mi ma ml) 0 0 116 [(0, va_rf (some (b 0))), (1, .int x1), (2, .int x2), (3, .int x3), (4, .int x4)] [] := by
  refine v_aload_n (q := 0) dX6_open_116 rfl rfl ?_
  refine v_bipush dX6_open_117 bp_m4 ?_
  refine v_callV q1737 q1739 qs53 q113 q1740 (ci := 7) rfl (mH_obj hb) n_X6_no ⟨Nat.le_of_ble_eq_true rfl, Nat.le_of_ble_eq_true rfl⟩ [.int (-4)] [] (met_X6_no hb hw) rfl (Nat.zero_le _) ⟨Nat.le_refl _, Nat.le_refl _⟩ dX6_open_119 rfl (v_ki (fun z_3 h1 hv => ?_))
  clear hw
  obtain ⟨ma_4, rfl, hw⟩ := hv
  exact v_iret dX6_open_122 rfl ⟨_, rfl, _, _, rfl, hw⟩
theorem b_X6_open_123 {post : (Int32) → (Nat → Int32) → (Nat → Nat → Int32) → Prop}   {x1 : Int32} {x2 : Int32} {x3 : Int32} {x4 : Int32} {ml : Nat → Nat → Int64}  (hb : mOK b)   (mi : Nat → Int32) (ma : Nat → Nat → Int32) (hw : w_X6_open_123 post x1 x2 x3 x4 ml mi ma) : VV l E X cX6_open RX6 "open" 5 r_X6_open (some .int) (vpi (fun (r : Int32) (h' : AH) => ∃ (mi' : Nat → Int32) (ma' : Nat → Nat → Int32), h' = (mH b mi' ma' ml) ∧ post r mi' ma')) (mH b mi ma ml) 0 0 123 [(0, va_rf (some (b 0))), (1, .int x1), (2, .int x2), (3, .int x3), (4, .int x4)] [] := by
  refine v_iload_n (q := 1) dX6_open_123 rfl rfl ?_
  refine v_iconst dX6_open_124 ic_1 ?_
  obtain ⟨hw_7, hw_8⟩ := hw
  refine v_icmp_ne (tgt := 187) dX6_open_125 (by decide) (fun c_5 => ?_) (fun c_6 => ?_)
  · have hw := hw_7 c_5
    refine v_aload_n (q := 0) dX6_open_187 rfl rfl ?_
    refine v_iload_n (q := 2) dX6_open_188 rfl rfl ?_
    refine v_iload_n (q := 3) dX6_open_189 rfl rfl ?_
    refine v_iload (q := 4) dX6_open_190 rfl ?_
    refine v_callV q1745 q1747 qs54 q113 q1748 (ci := 7) rfl (mH_obj hb) n_X6_opens ⟨Nat.le_of_ble_eq_true rfl, Nat.le_of_ble_eq_true rfl⟩ [.int x2, .int x3, .int x4] [] (met_X6_opens hb hw) rfl (Nat.zero_le _) ⟨Nat.le_refl _, Nat.le_refl _⟩ dX6_open_192 rfl (v_ki (fun z_9 h1 hv => ?_))
    clear hw
    obtain ⟨ma_10, rfl, hw⟩ := hv
    exact v_iret dX6_open_195 rfl ⟨_, rfl, _, _, rfl, hw⟩
  · have hw := hw_8 c_6
    refine v_aload_n (q := 0) dX6_open_128 rfl rfl ?_
    refine vm_get hb 2 (Nat.le_of_ble_eq_true rfl) q1616 rfl dX6_open_129 rfl ?_
    refine v_sipush dX6_open_132 sp_224 ?_
    refine v_aload_n (q := 0) dX6_open_135 rfl rfl ?_
    refine vm_get hb 2 (Nat.le_of_ble_eq_true rfl) q1616 rfl dX6_open_136 rfl ?_
    refine v_sipush dX6_open_139 sp_223 ?_
    obtain ⟨hi_11, hw⟩ := hw
    refine v_iald dX6_open_142 (mH_ar2 hb) hi_11 ?_
    refine v_iadd dX6_open_143 ?_
    refine v_iload_n (q := 2) dX6_open_144 rfl rfl ?_
    obtain ⟨hi_12, hw⟩ := hw
    obtain ⟨ma_13, ema_13⟩ : ∃ z9 : Nat → Nat → Int32, z9 = mup ma 2 (((nI 224) + (ma 2 ((nI 223)).toNatClampNeg))).toNatClampNeg x2 := ⟨_, rfl⟩
    replace hw := hw ma_13 ema_13
    refine v_iast dX6_open_145 (mH_ar2 hb) hi_12 ?_
    refine v_heap (h' := mH b mi ma_13 ml) (by rw [ema_13]; exact mH_st2 hb) ?_
    refine v_aload_n (q := 0) dX6_open_146 rfl rfl ?_
    refine vm_get hb 2 (Nat.le_of_ble_eq_true rfl) q1616 rfl dX6_open_147 rfl ?_
    refine v_sipush dX6_open_150 sp_236 ?_
    refine v_aload_n (q := 0) dX6_open_153 rfl rfl ?_
    refine vm_get hb 2 (Nat.le_of_ble_eq_true rfl) q1616 rfl dX6_open_154 rfl ?_
    refine v_sipush dX6_open_157 sp_223 ?_
    obtain ⟨hi_14, hw⟩ := hw
    refine v_iald dX6_open_160 (mH_ar2 hb) hi_14 ?_
    refine v_iadd dX6_open_161 ?_
    refine v_iconst dX6_open_162 ic_0 ?_
    obtain ⟨hi_15, hw⟩ := hw
    obtain ⟨ma_16, ema_16⟩ : ∃ z9 : Nat → Nat → Int32, z9 = mup ma_13 2 (((nI 236) + (ma_13 2 ((nI 223)).toNatClampNeg))).toNatClampNeg (nI 0) := ⟨_, rfl⟩
    replace hw := hw ma_16 ema_16
    refine v_iast dX6_open_163 (mH_ar2 hb) hi_15 ?_
    refine v_heap (h' := mH b mi ma_16 ml) (by rw [ema_16]; exact mH_st2 hb) ?_
    refine v_aload_n (q := 0) dX6_open_164 rfl rfl ?_
    refine vm_get hb 2 (Nat.le_of_ble_eq_true rfl) q1616 rfl dX6_open_165 rfl ?_
    refine v_sipush dX6_open_168 sp_223 ?_
    refine v_dup2 dX6_open_171 rfl (v_rf1 _) ?_
    obtain ⟨hi_17, hw⟩ := hw
    refine v_iald dX6_open_172 (mH_ar2 hb) hi_17 ?_
    refine v_iconst dX6_open_173 ic_1 ?_
    refine v_iadd dX6_open_174 ?_
    obtain ⟨hi_18, hw⟩ := hw
    obtain ⟨ma_19, ema_19⟩ : ∃ z9 : Nat → Nat → Int32, z9 = mup ma_16 2 ((nI 223)).toNatClampNeg ((ma_16 2 ((nI 223)).toNatClampNeg) + (nI 1)) := ⟨_, rfl⟩
    replace hw := hw ma_19 ema_19
    refine v_iast dX6_open_175 (mH_ar2 hb) hi_18 ?_
    refine v_heap (h' := mH b mi ma_19 ml) (by rw [ema_19]; exact mH_st2 hb) ?_
    refine v_aload_n (q := 0) dX6_open_176 rfl rfl ?_
    refine vm_get hb 2 (Nat.le_of_ble_eq_true rfl) q1616 rfl dX6_open_177 rfl ?_
    refine v_sipush dX6_open_180 sp_223 ?_
    obtain ⟨hi_20, hw⟩ := hw
    refine v_iald dX6_open_183 (mH_ar2 hb) hi_20 ?_
    refine v_iconst dX6_open_184 ic_1 ?_
    refine v_isub dX6_open_185 ?_
    exact v_iret dX6_open_186 rfl ⟨_, rfl, _, _, rfl, hw⟩
theorem b_X6_open_85 {post : (Int32) → (Nat → Int32) → (Nat → Nat → Int32) → Prop}   {x1 : Int32} {x2 : Int32} {x3 : Int32} {x4 : Int32} {ml : Nat → Nat → Int64}  (hb : mOK b)   (mi : Nat → Int32) (ma : Nat → Nat → Int32) (hw : w_X6_open_85 post x1 x2 x3 x4 ml mi ma) : VV l E X cX6_open RX6 "open" 5 r_X6_open (some .int) (vpi (fun (r : Int32) (h' : AH) => ∃ (mi' : Nat → Int32) (ma' : Nat → Nat → Int32), h' = (mH b mi' ma' ml) ∧ post r mi' ma')) (mH b mi ma ml) 0 0 85 [(0, va_rf (some (b 0))), (1, .int x1), (2, .int x2), (3, .int x3), (4, .int x4)] [] := by
  refine v_iload_n (q := 1) dX6_open_85 rfl rfl ?_
  obtain ⟨hw_23, hw_24⟩ := hw
  refine v_if_ne (tgt := 103) dX6_open_86 (by decide) (fun c_21 => ?_) (fun c_22 => ?_)
  · have hw := hw_23 c_21
    refine v_aload_n (q := 0) dX6_open_103 rfl rfl ?_
    refine vm_get hb 2 (Nat.le_of_ble_eq_true rfl) q1616 rfl dX6_open_104 rfl ?_
    refine v_sipush dX6_open_107 sp_223 ?_
    obtain ⟨hi_25, hw⟩ := hw
    refine v_iald dX6_open_110 (mH_ar2 hb) hi_25 ?_
    refine v_bipush dX6_open_111 bp_12 ?_
    obtain ⟨hw_28, hw_29⟩ := hw
    refine v_icmp_ne (tgt := 123) dX6_open_113 (by decide) (fun c_26 => ?_) (fun c_27 => ?_)
    · have hw := hw_28 c_26
      refine v_sub [0, 1, 2, 3, 4] rfl ?_
      exact b_X6_open_123 hb mi ma hw
    · have hw := hw_29 c_27
      refine v_sub [0, 1, 2, 3, 4] rfl ?_
      exact b_X6_open_116 hb mi ma hw
  · have hw := hw_24 c_22
    refine v_aload_n (q := 0) dX6_open_89 rfl rfl ?_
    refine vm_get hb 2 (Nat.le_of_ble_eq_true rfl) q1616 rfl dX6_open_90 rfl ?_
    refine v_iconst dX6_open_93 ic_0 ?_
    obtain ⟨hi_30, hw⟩ := hw
    refine v_iald dX6_open_94 (mH_ar2 hb) hi_30 ?_
    refine v_bipush dX6_open_95 bp_40 ?_
    obtain ⟨hw_33, hw_34⟩ := hw
    refine v_icmp_ne (tgt := 123) dX6_open_97 (by decide) (fun c_31 => ?_) (fun c_32 => ?_)
    · have hw := hw_33 c_31
      refine v_sub [0, 1, 2, 3, 4] rfl ?_
      exact b_X6_open_123 hb mi ma hw
    · have hw := hw_34 c_32
      refine v_goto (tgt := 116) dX6_open_100 (by decide) ?_
      refine v_sub [0, 1, 2, 3, 4] rfl ?_
      exact b_X6_open_116 hb mi ma hw
theorem e_X6_open {post : (Int32) → (Nat → Int32) → (Nat → Nat → Int32) → Prop}   {x1 : Int32} {x2 : Int32} {x3 : Int32} {x4 : Int32} {mi : Nat → Int32} {ma : Nat → Nat → Int32} {ml : Nat → Nat → Int64} (hb : mOK b)  (hw : w_X6_open post  x1 x2 x3 x4 mi ma ml) : VV l E X cX6_open RX6 "open" 5 r_X6_open (some .int) (vpi (fun (r : Int32) (h' : AH) => ∃ (mi' : Nat → Int32) (ma' : Nat → Nat → Int32), h' = (mH b mi' ma' ml) ∧ post r mi' ma')) (mH b mi ma ml) 0 0 0 [(0, va_rf (some (b 0))), (1, .int x1), (2, .int x2), (3, .int x3), (4, .int x4)] [] := by
  refine v_aload_n (q := 0) dX6_open_0 rfl rfl ?_
  refine v_iconst dX6_open_1 ic_0 ?_
  obtain ⟨mi_35, emi_35⟩ : ∃ z9 : Nat → Int32, z9 = upd mi 0 (nI 0) := ⟨_, rfl⟩
  replace hw := hw mi_35 emi_35
  refine vm_put hb 0 (Nat.le_of_ble_eq_true rfl) q1614 rfl rfl rfl dX6_open_2 emi_35 rfl ?_
  refine v_iload_n (q := 1) dX6_open_5 rfl rfl ?_
  refine v_i2l dX6_open_6 ?_
  refine v_lconst (v := lN 0) dX6_open_7 rfl ?_
  refine v_lconst (v := lN 1) dX6_open_8 rfl ?_
  refine v_callS q1734 q1735 q113 q1736 n_X6_within ⟨Nat.le_of_ble_eq_true rfl, Nat.le_of_ble_eq_true rfl⟩ [.long ((x1).toInt64), .long (lN 0), .long (lN 1)] [] (met_X6_within hw) rfl (Nat.zero_le _) ⟨Nat.le_refl _, Nat.le_refl _⟩ dX6_open_9 rfl (v_ki (fun z_36 h1 hv => ?_))
  clear hw
  obtain ⟨e9, hw⟩ := hv
  refine v_heap e9 ?_
  clear e9
  obtain ⟨hw_39, hw_40⟩ := hw
  refine v_if_ne (tgt := 22) dX6_open_12 (by decide) (fun c_37 => ?_) (fun c_38 => ?_)
  · have hw := hw_39 c_37
    refine v_iload_n (q := 1) dX6_open_22 rfl rfl ?_
    obtain ⟨hw_43, hw_44⟩ := hw
    refine v_if_ne (tgt := 66) dX6_open_23 (by decide) (fun c_41 => ?_) (fun c_42 => ?_)
    · have hw := hw_43 c_41
      refine v_iload_n (q := 2) dX6_open_66 rfl rfl ?_
      refine v_i2l dX6_open_67 ?_
      refine v_lconst (v := lN 0) dX6_open_68 rfl ?_
      refine v_ldc2 (v := (lN 5)) dX6_open_69 q1744 ?_
      refine v_callS q1734 q1735 q113 q1736 n_X6_within ⟨Nat.le_of_ble_eq_true rfl, Nat.le_of_ble_eq_true rfl⟩ [.long ((x2).toInt64), .long (lN 0), .long (lN 5)] [] (met_X6_within hw) rfl (Nat.zero_le _) ⟨Nat.le_refl _, Nat.le_refl _⟩ dX6_open_72 rfl (v_ki (fun z_45 h1 hv => ?_))
      clear hw
      obtain ⟨e9, hw⟩ := hv
      refine v_heap e9 ?_
      clear e9
      obtain ⟨hw_48, hw_49⟩ := hw
      refine v_if_ne (tgt := 85) dX6_open_75 (by decide) (fun c_46 => ?_) (fun c_47 => ?_)
      · have hw := hw_48 c_46
        refine v_sub [0, 1, 2, 3, 4] rfl ?_
        exact b_X6_open_85 hb mi_35 ma hw
      · have hw := hw_49 c_47
        refine v_sub [0, 1, 2, 3, 4] rfl ?_
        exact b_X6_open_78 hb mi_35 ma hw
    · have hw := hw_44 c_42
      refine v_iload_n (q := 2) dX6_open_26 rfl rfl ?_
      refine v_i2l dX6_open_27 ?_
      refine v_lconst (v := lN 0) dX6_open_28 rfl ?_
      refine v_ldc2 (v := (lN 9)) dX6_open_29 q1741 ?_
      refine v_callS q1734 q1735 q113 q1736 n_X6_within ⟨Nat.le_of_ble_eq_true rfl, Nat.le_of_ble_eq_true rfl⟩ [.long ((x2).toInt64), .long (lN 0), .long (lN 9)] [] (met_X6_within hw) rfl (Nat.zero_le _) ⟨Nat.le_refl _, Nat.le_refl _⟩ dX6_open_32 rfl (v_ki (fun z_50 h1 hv => ?_))
      clear hw
      obtain ⟨e9, hw⟩ := hv
      refine v_heap e9 ?_
      clear e9
      obtain ⟨hw_53, hw_54⟩ := hw
      refine v_if_eq (tgt := 78) dX6_open_35 (by decide) (fun c_51 => ?_) (fun c_52 => ?_)
      · have hw := hw_53 c_51
        refine v_sub [0, 1, 2, 3, 4] rfl ?_
        exact b_X6_open_78 hb mi_35 ma hw
      · have hw := hw_54 c_52
        refine v_iload_n (q := 3) dX6_open_38 rfl rfl ?_
        refine v_i2l dX6_open_39 ?_
        refine v_lconst (v := lN 0) dX6_open_40 rfl ?_
        refine v_ldc2 (v := (lN 15)) dX6_open_41 q1742 ?_
        refine v_callS q1734 q1735 q113 q1736 n_X6_within ⟨Nat.le_of_ble_eq_true rfl, Nat.le_of_ble_eq_true rfl⟩ [.long ((x3).toInt64), .long (lN 0), .long (lN 15)] [] (met_X6_within hw) rfl (Nat.zero_le _) ⟨Nat.le_refl _, Nat.le_refl _⟩ dX6_open_44 rfl (v_ki (fun z_55 h1 hv => ?_))
        clear hw
        obtain ⟨e9, hw⟩ := hv
        refine v_heap e9 ?_
        clear e9
        obtain ⟨hw_58, hw_59⟩ := hw
        refine v_if_eq (tgt := 78) dX6_open_47 (by decide) (fun c_56 => ?_) (fun c_57 => ?_)
        · have hw := hw_58 c_56
          refine v_sub [0, 1, 2, 3, 4] rfl ?_
          exact b_X6_open_78 hb mi_35 ma hw
        · have hw := hw_59 c_57
          refine v_iload (q := 4) dX6_open_50 rfl ?_
          refine v_i2l dX6_open_52 ?_
          refine v_lconst (v := lN 0) dX6_open_53 rfl ?_
          refine v_ldc2 (v := (lN 9999)) dX6_open_54 q1743 ?_
          refine v_callS q1734 q1735 q113 q1736 n_X6_within ⟨Nat.le_of_ble_eq_true rfl, Nat.le_of_ble_eq_true rfl⟩ [.long ((x4).toInt64), .long (lN 0), .long (lN 9999)] [] (met_X6_within hw) rfl (Nat.zero_le _) ⟨Nat.le_refl _, Nat.le_refl _⟩ dX6_open_57 rfl (v_ki (fun z_60 h1 hv => ?_))
          clear hw
          obtain ⟨e9, hw⟩ := hv
          refine v_heap e9 ?_
          clear e9
          obtain ⟨hw_63, hw_64⟩ := hw
          refine v_if_ne (tgt := 85) dX6_open_60 (by decide) (fun c_61 => ?_) (fun c_62 => ?_)
          · have hw := hw_63 c_61
            refine v_sub [0, 1, 2, 3, 4] rfl ?_
            exact b_X6_open_85 hb mi_35 ma hw
          · have hw := hw_64 c_62
            refine v_goto (tgt := 78) dX6_open_63 (by decide) ?_
            refine v_sub [0, 1, 2, 3, 4] rfl ?_
            exact b_X6_open_78 hb mi_35 ma hw
  · have hw := hw_40 c_38
    refine v_aload_n (q := 0) dX6_open_15 rfl rfl ?_
    refine v_bipush dX6_open_16 bp_m2 ?_
    refine v_callV q1737 q1739 qs53 q113 q1740 (ci := 7) rfl (mH_obj hb) n_X6_no ⟨Nat.le_of_ble_eq_true rfl, Nat.le_of_ble_eq_true rfl⟩ [.int (-2)] [] (met_X6_no hb hw) rfl (Nat.zero_le _) ⟨Nat.le_refl _, Nat.le_refl _⟩ dX6_open_18 rfl (v_ki (fun z_65 h1 hv => ?_))
    clear hw
    obtain ⟨ma_66, rfl, hw⟩ := hv
    exact v_iret dX6_open_21 rfl ⟨_, rfl, _, _, rfl, hw⟩
theorem met_X6_open {post : (Int32) → (Nat → Int32) → (Nat → Nat → Int32) → Prop}   {x1 : Int32} {x2 : Int32} {x3 : Int32} {x4 : Int32} {mi : Nat → Int32} {ma : Nat → Nat → Int32} {ml : Nat → Nat → Int64} (hb : mOK b)  (hw : w_X6_open post  x1 x2 x3 x4 mi ma ml) : Mt l E yX6_open (ws_ yX6_open cX6_open 5 (some .int)) r_X6_open [va_rf (some (b 0)), .int x1, .int x2, .int x3, .int x4] (mH b mi ma ml) (vpi (fun (r : Int32) (h' : AH) => ∃ (mi' : Nat → Int32) (ma' : Nat → Nat → Int32), h' = (mH b mi' ma' ml) ∧ post r mi' ma')) := v_entry (by decide +kernel) (Nat.le_of_ble_eq_true rfl) rfl (fun _ => e_X6_open hb hw)
/-! X6_wordAt -/
abbrev r_X6_wordAt : Room := { frames := 0, cells := 0, slots := 0, locals := 0 }
theorem n_X6_wordAt : vdn yX6_wordAt 2 := ⟨by decide +kernel, by decide +kernel, by decide +kernel⟩
def w_X6_wordAt (post : (Int32) → Prop) (x0 : Int64) (x2 : Int32) : Prop :=
 ((x2 ≤ (nI 7) → (post (((((x0).toUInt64 >>> ((((nI 56) - ((nI 8) * x2))).toInt64.toUInt64 &&& Int64.toUInt64 63)).toInt64).toInt32) &&& (nI 255)))) ∧ (¬ x2 ≤ (nI 7) → (post (nI 0))))
theorem e_X6_wordAt {post : (Int32) → Prop}   {x0 : Int64} {x2 : Int32} {h : AH}  (hw : w_X6_wordAt post  x0 x2) : VV l E X cX6_wordAt RX6 "wordAt" 3 r_X6_wordAt (some .int) (vpi (fun (r : Int32) (h' : AH) => h' = h ∧ post r)) h 0 0 0 [(0, .long x0), (2, .int x2)] [] := by
  refine v_iload_n (q := 1) dX6_wordAt_0 rfl rfl ?_
  refine v_bipush dX6_wordAt_1 bp_7 ?_
  obtain ⟨hw_3, hw_4⟩ := hw
  refine v_icmp_le (tgt := 10) dX6_wordAt_3 (by decide) (fun c_1 => ?_) (fun c_2 => ?_)
  · have hw := hw_3 c_1
    refine v_lload_n (q := 0) dX6_wordAt_10 rfl rfl ?_
    refine v_bipush dX6_wordAt_11 bp_56 ?_
    refine v_bipush dX6_wordAt_13 bp_8 ?_
    refine v_iload_n (q := 1) dX6_wordAt_15 rfl rfl ?_
    refine v_imul dX6_wordAt_16 ?_
    refine v_isub dX6_wordAt_17 ?_
    refine v_lushr dX6_wordAt_18 ?_
    refine v_l2i dX6_wordAt_19 ?_
    refine v_sipush dX6_wordAt_20 sp_255 ?_
    refine v_iand dX6_wordAt_23 ?_
    exact v_iret dX6_wordAt_24 rfl ⟨_, rfl, rfl, hw⟩
  · have hw := hw_4 c_2
    refine v_iconst dX6_wordAt_6 ic_0 ?_
    refine v_goto (tgt := 24) dX6_wordAt_7 (by decide) ?_
    exact v_iret dX6_wordAt_24 rfl ⟨_, rfl, rfl, hw⟩
theorem met_X6_wordAt {post : (Int32) → Prop}   {x0 : Int64} {x2 : Int32} {h : AH}  (hw : w_X6_wordAt post  x0 x2) : Mt l E yX6_wordAt (ws_ yX6_wordAt cX6_wordAt 3 (some .int)) r_X6_wordAt [.long x0, .int x2] h (vpi (fun (r : Int32) (h' : AH) => h' = h ∧ post r)) := v_entry (by decide +kernel) (Nat.le_of_ble_eq_true rfl) rfl (fun _ => e_X6_wordAt hw)
/-! X6_lengthOf -/
abbrev r_X6_lengthOf : Room := { frames := 1, cells := 0, slots := 0, locals := 22 }
theorem n_X6_lengthOf : vdn yX6_lengthOf 1 := ⟨by decide +kernel, by decide +kernel, by decide +kernel⟩
def w_X6_lengthOf_2 (post : (Int32) → Prop) (x0 : Int64) : Nat → (Int32) → Prop
 | 0, _ => False
 | n0 + 1, x2 =>
 (((nI 8) ≤ x2 → (post x2)) ∧ (¬ (nI 8) ≤ x2 → (w_X6_wordAt (fun (z_5 : Int32) => ((z_5 = 0 → (post x2)) ∧ (¬ z_5 = 0 → (∀ z_10 : Int32, z_10 = x2 + (nI 1) → (w_X6_lengthOf_2 post x0 n0 z_10))))) x0 x2)))
def w_X6_lengthOf (post : (Int32) → Prop) (x0 : Int64) : Prop :=
 (∃ n1 : Nat, (w_X6_lengthOf_2 post x0 n1 (nI 0)))
theorem b_X6_lengthOf_2 {post : (Int32) → Prop}   {x0 : Int64} {h : AH}    : ∀ (n0 : Nat) (x2 : Int32), w_X6_lengthOf_2 post x0 n0 x2 → VV l E X cX6_lengthOf RX6 "lengthOf" 3 r_X6_lengthOf (some .int) (vpi (fun (r : Int32) (h' : AH) => h' = h ∧ post r)) h 0 0 2 [(0, .long x0), (2, .int x2)] [] := by
  intro n0
  induction n0 with
  | zero =>
    intro x2 hw
    exact hw.elim
  | succ n0 ih =>
    intro x2 hw
    refine v_iload_n (q := 1) dX6_lengthOf_2 rfl rfl ?_
    refine v_bipush dX6_lengthOf_3 bp_8 ?_
    obtain ⟨hw_3, hw_4⟩ := hw
    refine v_icmp_ge (tgt := 22) dX6_lengthOf_5 (by decide) (fun c_1 => ?_) (fun c_2 => ?_)
    · have hw := hw_3 c_1
      refine v_iload_n (q := 1) dX6_lengthOf_22 rfl rfl ?_
      exact v_iret dX6_lengthOf_23 rfl ⟨_, rfl, rfl, hw⟩
    · have hw := hw_4 c_2
      refine v_lload_n (q := 0) dX6_lengthOf_8 rfl rfl ?_
      refine v_iload_n (q := 1) dX6_lengthOf_9 rfl rfl ?_
      refine v_callS q1756 q1757 q113 q1758 n_X6_wordAt ⟨Nat.le_of_ble_eq_true rfl, Nat.le_of_ble_eq_true rfl⟩ [.long x0, .int x2] [] (met_X6_wordAt hw) rfl (Nat.zero_le _) ⟨Nat.le_refl _, Nat.le_refl _⟩ dX6_lengthOf_10 rfl (v_ki (fun z_5 h1 hv => ?_))
      clear hw
      obtain ⟨e9, hw⟩ := hv
      refine v_heap e9 ?_
      clear e9
      obtain ⟨hw_8, hw_9⟩ := hw
      refine v_if_eq (tgt := 22) dX6_lengthOf_13 (by decide) (fun c_6 => ?_) (fun c_7 => ?_)
      · have hw := hw_8 c_6
        refine v_iload_n (q := 1) dX6_lengthOf_22 rfl rfl ?_
        exact v_iret dX6_lengthOf_23 rfl ⟨_, rfl, rfl, hw⟩
      · have hw := hw_9 c_7
        obtain ⟨z_10, e_10⟩ : ∃ z9 : Int32, z9 = x2 + (nI 1) := ⟨_, rfl⟩
        replace hw := hw z_10 e_10
        refine v_iinc (q := 1) (v := z_10) (lv1 := [(2, .int z_10), (0, .long x0)]) dX6_lengthOf_16 rfl (by rw [e_10, ic_1]) (Nat.le_of_ble_eq_true rfl) rfl ?_
        refine v_goto (tgt := 2) dX6_lengthOf_19 (by decide) ?_
        refine v_sub [1, 0] rfl ?_
        exact ih z_10 hw
theorem e_X6_lengthOf {post : (Int32) → Prop}   {x0 : Int64} {h : AH}  (hw : w_X6_lengthOf post  x0) : VV l E X cX6_lengthOf RX6 "lengthOf" 3 r_X6_lengthOf (some .int) (vpi (fun (r : Int32) (h' : AH) => h' = h ∧ post r)) h 0 0 0 [(0, .long x0)] [] := by
  refine v_iconst dX6_lengthOf_0 ic_0 ?_
  refine v_istore_n (lv1 := [(2, .int (nI 0)), (0, .long x0)]) dX6_lengthOf_1 rfl (Nat.le_of_ble_eq_true rfl) rfl ?_
  obtain ⟨n_11, hw⟩ := hw
  refine v_sub [1, 0] rfl ?_
  exact b_X6_lengthOf_2 n_11 (nI 0) hw
theorem met_X6_lengthOf {post : (Int32) → Prop}   {x0 : Int64} {h : AH}  (hw : w_X6_lengthOf post  x0) : Mt l E yX6_lengthOf (ws_ yX6_lengthOf cX6_lengthOf 3 (some .int)) r_X6_lengthOf [.long x0] h (vpi (fun (r : Int32) (h' : AH) => h' = h ∧ post r)) := v_entry (by decide +kernel) (Nat.le_of_ble_eq_true rfl) rfl (fun _ => e_X6_lengthOf hw)
/-! X6_plain -/
abbrev r_X6_plain : Room := { frames := 2, cells := 0, slots := 0, locals := 44 }
theorem n_X6_plain : vdn yX6_plain 1 := ⟨by decide +kernel, by decide +kernel, by decide +kernel⟩
def w_X6_plain_11 (post : (Int64) → Prop) (x0 : Int64) : Nat → (Int64) → (Int32) → (Int32) → Prop
 | 0, _, _, _ => False
 | n0 + 1, x2, x4, x5 =>
 ((x4 ≤ x5 → (post x2)) ∧ (¬ x4 ≤ x5 → (w_X6_wordAt (fun (z_5 : Int32) => (∀ y_6 : Int64, y_6 = (x2 ||| (((z_5).toInt64) <<< ((((nI 56) - ((nI 8) * x5))).toInt64 &&& 63))) → (∀ z_7 : Int32, z_7 = x5 + (nI 1) → (w_X6_plain_11 post x0 n0 y_6 x4 z_7)))) x0 x5)))
def w_X6_plain (post : (Int64) → Prop) (x0 : Int64) : Prop :=
 (w_X6_lengthOf (fun (z_8 : Int32) => (∃ n1 : Nat, (w_X6_plain_11 post x0 n1 (lN 0) z_8 (nI 0)))) x0)
theorem b_X6_plain_11 {post : (Int64) → Prop}   {x0 : Int64} {h : AH}    : ∀ (n0 : Nat) (x2 : Int64) (x4 : Int32) (x5 : Int32), w_X6_plain_11 post x0 n0 x2 x4 x5 → VV l E X cX6_plain RX6 "plain" 6 r_X6_plain (some .long) (vpl (fun (r : Int64) (h' : AH) => h' = h ∧ post r)) h 0 0 11 [(0, .long x0), (2, .long x2), (4, .int x4), (5, .int x5)] [] := by
  intro n0
  induction n0 with
  | zero =>
    intro x2 x4 x5 hw
    exact hw.elim
  | succ n0 ih =>
    intro x2 x4 x5 hw
    refine v_iload (q := 3) dX6_plain_11 rfl ?_
    refine v_iload (q := 2) dX6_plain_13 rfl ?_
    obtain ⟨hw_3, hw_4⟩ := hw
    refine v_icmp_ge (tgt := 43) dX6_plain_15 (by decide) (fun c_1 => ?_) (fun c_2 => ?_)
    · have hw := hw_3 c_1
      refine v_lload_n (q := 1) dX6_plain_43 rfl rfl ?_
      exact v_lret dX6_plain_44 rfl ⟨_, rfl, rfl, hw⟩
    · have hw := hw_4 c_2
      refine v_lload_n (q := 1) dX6_plain_18 rfl rfl ?_
      refine v_lload_n (q := 0) dX6_plain_19 rfl rfl ?_
      refine v_iload (q := 3) dX6_plain_20 rfl ?_
      refine v_callS q1756 q1757 q113 q1758 n_X6_wordAt ⟨Nat.le_of_ble_eq_true rfl, Nat.le_of_ble_eq_true rfl⟩ [.long x0, .int x5] [.long x2] (met_X6_wordAt hw) rfl (Nat.le_of_ble_eq_true rfl) ⟨Nat.le_refl _, Nat.le_refl _⟩ dX6_plain_22 rfl (v_ki (fun z_5 h1 hv => ?_))
      clear hw
      obtain ⟨e9, hw⟩ := hv
      refine v_heap e9 ?_
      clear e9
      refine v_i2l dX6_plain_25 ?_
      refine v_bipush dX6_plain_26 bp_56 ?_
      refine v_bipush dX6_plain_28 bp_8 ?_
      refine v_iload (q := 3) dX6_plain_30 rfl ?_
      refine v_imul dX6_plain_32 ?_
      refine v_isub dX6_plain_33 ?_
      refine v_lshl dX6_plain_34 ?_
      refine v_lor dX6_plain_35 ?_
      refine v_topl (fun y_6 e_6 => ?_)
      replace hw := hw y_6 e_6
      refine v_lstore_n (lv1 := [(2, .long y_6), (0, .long x0), (4, .int x4), (5, .int x5)]) dX6_plain_36 rfl (Nat.le_of_ble_eq_true rfl) rfl ?_
      obtain ⟨z_7, e_7⟩ : ∃ z9 : Int32, z9 = x5 + (nI 1) := ⟨_, rfl⟩
      replace hw := hw z_7 e_7
      refine v_iinc (q := 3) (v := z_7) (lv1 := [(5, .int z_7), (2, .long y_6), (0, .long x0), (4, .int x4)]) dX6_plain_37 rfl (by rw [e_7, ic_1]) (Nat.le_of_ble_eq_true rfl) rfl ?_
      refine v_goto (tgt := 11) dX6_plain_40 (by decide) ?_
      refine v_sub [2, 1, 3, 0] rfl ?_
      exact ih y_6 x4 z_7 hw
theorem e_X6_plain {post : (Int64) → Prop}   {x0 : Int64} {h : AH}  (hw : w_X6_plain post  x0) : VV l E X cX6_plain RX6 "plain" 6 r_X6_plain (some .long) (vpl (fun (r : Int64) (h' : AH) => h' = h ∧ post r)) h 0 0 0 [(0, .long x0)] [] := by
  refine v_lconst (v := lN 0) dX6_plain_0 rfl ?_
  refine v_lstore_n (lv1 := [(2, .long (lN 0)), (0, .long x0)]) dX6_plain_1 rfl (Nat.le_of_ble_eq_true rfl) rfl ?_
  refine v_lload_n (q := 1) dX6_plain_2 rfl rfl ?_
  refine v_callS q1753 q1754 q113 q1755 n_X6_lengthOf ⟨Nat.le_of_ble_eq_true rfl, Nat.le_of_ble_eq_true rfl⟩ [.long x0] [] (met_X6_lengthOf hw) rfl (Nat.zero_le _) ⟨Nat.le_refl _, Nat.le_refl _⟩ dX6_plain_3 rfl (v_ki (fun z_8 h1 hv => ?_))
  clear hw
  obtain ⟨e9, hw⟩ := hv
  refine v_heap e9 ?_
  clear e9
  refine v_istore (lv1 := [(4, .int z_8), (2, .long (lN 0)), (0, .long x0)]) dX6_plain_6 (Nat.le_of_ble_eq_true rfl) rfl ?_
  refine v_iconst dX6_plain_8 ic_0 ?_
  refine v_istore (lv1 := [(5, .int (nI 0)), (4, .int z_8), (2, .long (lN 0)), (0, .long x0)]) dX6_plain_9 (Nat.le_of_ble_eq_true rfl) rfl ?_
  obtain ⟨n_9, hw⟩ := hw
  refine v_sub [3, 2, 1, 0] rfl ?_
  exact b_X6_plain_11 n_9 (lN 0) z_8 (nI 0) hw
theorem met_X6_plain {post : (Int64) → Prop}   {x0 : Int64} {h : AH}  (hw : w_X6_plain post  x0) : Mt l E yX6_plain (ws_ yX6_plain cX6_plain 6 (some .long)) r_X6_plain [.long x0] h (vpl (fun (r : Int64) (h' : AH) => h' = h ∧ post r)) := v_entry (by decide +kernel) (Nat.le_of_ble_eq_true rfl) rfl (fun _ => e_X6_plain hw)
/-! X6_line -/
abbrev r_X6_line : Room := { frames := 3, cells := 0, slots := 0, locals := 69 }
theorem n_X6_line : vdn yX6_line 4 := ⟨by decide +kernel, by decide +kernel, by decide +kernel⟩
def w_X6_line_63 (post : (Int32) → (Nat → Int32) → (Nat → Nat → Int32) → (Nat → Nat → Int64) → Prop) (x1 : Int32) (x2 : Int32) (x3 : Int32) (x4 : Int64) (mi : Nat → Int32) (ma : Nat → Nat → Int32) (ml : Nat → Nat → Int64) : Prop :=
 (w_X6_no (fun (z_1 : Int32) (ma_2 : Nat → Nat → Int32) => (post z_1 mi ma_2 ml)) (-2) mi ma ml)
def w_X6_line_95 (post : (Int32) → (Nat → Int32) → (Nat → Nat → Int32) → (Nat → Nat → Int64) → Prop) (x1 : Int32) (x2 : Int32) (x3 : Int32) (x4 : Int64) (mi : Nat → Int32) (ma : Nat → Nat → Int32) (ml : Nat → Nat → Int64) : Prop :=
 (w_X6_no (fun (z_3 : Int32) (ma_4 : Nat → Nat → Int32) => (post z_3 mi ma_4 ml)) (-3) mi ma ml)
def w_X6_line_242 (post : (Int32) → (Nat → Int32) → (Nat → Nat → Int32) → (Nat → Nat → Int64) → Prop) (x1 : Int32) (x2 : Int32) (x3 : Int32) (x4 : Int64) (x6 : Int32) (s0 : Int32) (mi : Nat → Int32) (ma : Nat → Nat → Int32) (ml : Nat → Nat → Int64) : Prop :=
 (vp_in x6 3372 ∧ (w_X6_plain (fun (y_6 : Int64) => (vp_in ((s0 + ((nI 12) * x2)) + (ma 2 (x6).toNatClampNeg)) 2352 ∧ ∀ ml_8 : Nat → Nat → Int64, ml_8 = mupL ml 3 (((s0 + ((nI 12) * x2)) + (ma 2 (x6).toNatClampNeg))).toNatClampNeg y_6 → (vp_in x6 3372 ∧ (vp_in x6 3372 ∧ ∀ ma_11 : Nat → Nat → Int32, ma_11 = mup ma 2 (x6).toNatClampNeg ((ma 2 (x6).toNatClampNeg) + (nI 1)) → (vp_in x6 3372 ∧ (post ((ma_11 2 (x6).toNatClampNeg) - (nI 1)) mi ma_11 ml_8)))))) x4))
def w_X6_line_206 (post : (Int32) → (Nat → Int32) → (Nat → Nat → Int32) → (Nat → Nat → Int64) → Prop) (x1 : Int32) (x2 : Int32) (x3 : Int32) (x4 : Int64) (s0 : Int32) (mi : Nat → Int32) (ma : Nat → Nat → Int32) (ml : Nat → Nat → Int64) : Prop :=
 (vp_in s0 3372 ∧ ((¬ (ma 2 (s0).toNatClampNeg) = (nI 12) → ((¬ x1 = 0 → (w_X6_line_242 post x1 x2 x3 x4 s0 (nI 540) mi ma ml)) ∧ (x1 = 0 → (w_X6_line_242 post x1 x2 x3 x4 s0 (nI 0) mi ma ml)))) ∧ ((ma 2 (s0).toNatClampNeg) = (nI 12) → (w_X6_no (fun (z_22 : Int32) (ma_23 : Nat → Nat → Int32) => (post z_22 mi ma_23 ml)) (-4) mi ma ml))))
def w_X6_line_102 (post : (Int32) → (Nat → Int32) → (Nat → Nat → Int32) → (Nat → Nat → Int64) → Prop) (x1 : Int32) (x2 : Int32) (x3 : Int32) (x4 : Int64) (mi : Nat → Int32) (ma : Nat → Nat → Int32) (ml : Nat → Nat → Int64) : Prop :=
 ((¬ x1 = (nI 2) → ((¬ x1 = 0 → (w_X6_line_206 post x1 x2 x3 x4 ((nI 236) + x2) mi ma ml)) ∧ (x1 = 0 → (w_X6_line_206 post x1 x2 x3 x4 ((nI 121) + x2) mi ma ml)))) ∧ (x1 = (nI 2) → (vp_in (nI 162) 3372 ∧ ((¬ (ma 2 ((nI 162)).toNatClampNeg) = (nI 60) → (vp_in (nI 162) 3372 ∧ (vp_in ((nI 163) + (ma 2 ((nI 162)).toNatClampNeg)) 3372 ∧ ∀ ma_39 : Nat → Nat → Int32, ma_39 = mup ma 2 (((nI 163) + (ma 2 ((nI 162)).toNatClampNeg))).toNatClampNeg x3 → (vp_in (nI 162) 3372 ∧ (w_X6_plain (fun (y_41 : Int64) => (vp_in ((nI 480) + (ma_39 2 ((nI 162)).toNatClampNeg)) 2352 ∧ ∀ ml_43 : Nat → Nat → Int64, ml_43 = mupL ml 3 (((nI 480) + (ma_39 2 ((nI 162)).toNatClampNeg))).toNatClampNeg y_41 → (vp_in (nI 162) 3372 ∧ (vp_in (nI 162) 3372 ∧ ∀ ma_46 : Nat → Nat → Int32, ma_46 = mup ma_39 2 ((nI 162)).toNatClampNeg ((ma_39 2 ((nI 162)).toNatClampNeg) + (nI 1)) → (vp_in (nI 162) 3372 ∧ (post ((ma_46 2 ((nI 162)).toNatClampNeg) - (nI 1)) mi ma_46 ml_43)))))) x4))))) ∧ ((ma 2 ((nI 162)).toNatClampNeg) = (nI 60) → (w_X6_no (fun (z_48 : Int32) (ma_49 : Nat → Nat → Int32) => (post z_48 mi ma_49 ml)) (-4) mi ma ml))))))
def w_X6_line_70 (post : (Int32) → (Nat → Int32) → (Nat → Nat → Int32) → (Nat → Nat → Int64) → Prop) (x1 : Int32) (x2 : Int32) (x3 : Int32) (x4 : Int64) (mi : Nat → Int32) (ma : Nat → Nat → Int32) (ml : Nat → Nat → Int64) : Prop :=
 (w_X6_lengthOf (fun (z_50 : Int32) => ((z_50 = 0 → (w_X6_line_95 post x1 x2 x3 x4 mi ma ml)) ∧ (¬ z_50 = 0 → ((¬ x1 = (nI 2) → (w_X6_line_102 post x1 x2 x3 x4 mi ma ml)) ∧ (x1 = (nI 2) → (w_X6_within (fun (z_59 : Int32) => ((¬ z_59 = 0 → (w_X6_line_102 post x1 x2 x3 x4 mi ma ml)) ∧ (z_59 = 0 → (w_X6_line_95 post x1 x2 x3 x4 mi ma ml)))) ((x3).toInt64) (lN 0) (lN 9))))))) x4)
def w_X6_line (post : (Int32) → (Nat → Int32) → (Nat → Nat → Int32) → (Nat → Nat → Int64) → Prop) (x1 : Int32) (x2 : Int32) (x3 : Int32) (x4 : Int64) (mi : Nat → Int32) (ma : Nat → Nat → Int32) (ml : Nat → Nat → Int64) : Prop :=
 (∀ mi_64 : Nat → Int32, mi_64 = upd mi 0 (nI 0) → ((¬ x1 = 0 → ((¬ x1 = (nI 1) → ((x1 = (nI 2) → (w_X6_line_70 post x1 x2 x3 x4 mi_64 ma ml)) ∧ (¬ x1 = (nI 2) → (w_X6_line_63 post x1 x2 x3 x4 mi_64 ma ml)))) ∧ (x1 = (nI 1) → (vp_in (nI 223) 3372 ∧ (w_X6_within (fun (z_78 : Int32) => ((¬ z_78 = 0 → (w_X6_line_70 post x1 x2 x3 x4 mi_64 ma ml)) ∧ (z_78 = 0 → (w_X6_line_63 post x1 x2 x3 x4 mi_64 ma ml)))) ((x2).toInt64) (lN 0) ((((ma 2 ((nI 223)).toNatClampNeg) - (nI 1))).toInt64)))))) ∧ (x1 = 0 → (vp_in (nI 0) 3372 ∧ (w_X6_within (fun (z_84 : Int32) => ((¬ z_84 = 0 → (w_X6_line_70 post x1 x2 x3 x4 mi_64 ma ml)) ∧ (z_84 = 0 → (w_X6_line_63 post x1 x2 x3 x4 mi_64 ma ml)))) ((x2).toInt64) (lN 0) ((((ma 2 ((nI 0)).toNatClampNeg) - (nI 1))).toInt64))))))
theorem b_X6_line_63 {post : (Int32) → (Nat → Int32) → (Nat → Nat → Int32) → (Nat → Nat → Int64) → Prop}   {x1 : Int32} {x2 : Int32} {x3 : Int32} {x4 : Int64}  (hb : mOK b)   (mi : Nat → Int32) (ma : Nat → Nat → Int32) (ml : Nat → Nat → Int64) (hw : w_X6_line_63 post x1 x2 x3 x4 mi ma ml) : VV l E X cX6_line RX6 "line" 7 r_X6_line (some .int) (vpi (fun (r : Int32) (h' : AH) => ∃ (mi' : Nat → Int32) (ma' : Nat → Nat → Int32) (ml' : Nat → Nat → Int64), h' = (mH b mi' ma' ml') ∧ post r mi' ma' ml')) (mH b mi ma ml) 0 0 63 [(0, va_rf (some (b 0))), (1, .int x1), (2, .int x2), (3, .int x3), (4, .long x4)] [] := by
  refine v_aload_n (q := 0) dX6_line_63 rfl rfl ?_
  refine v_bipush dX6_line_64 bp_m2 ?_
  refine v_callV q1737 q1739 qs53 q113 q1740 (ci := 7) rfl (mH_obj hb) n_X6_no ⟨Nat.le_of_ble_eq_true rfl, Nat.le_of_ble_eq_true rfl⟩ [.int (-2)] [] (met_X6_no hb hw) rfl (Nat.zero_le _) ⟨Nat.le_refl _, Nat.le_refl _⟩ dX6_line_66 rfl (v_ki (fun z_1 h1 hv => ?_))
  clear hw
  obtain ⟨ma_2, rfl, hw⟩ := hv
  exact v_iret dX6_line_69 rfl ⟨_, rfl, _, _, _, rfl, hw⟩
theorem b_X6_line_95 {post : (Int32) → (Nat → Int32) → (Nat → Nat → Int32) → (Nat → Nat → Int64) → Prop}   {x1 : Int32} {x2 : Int32} {x3 : Int32} {x4 : Int64}  (hb : mOK b)   (mi : Nat → Int32) (ma : Nat → Nat → Int32) (ml : Nat → Nat → Int64) (hw : w_X6_line_95 post x1 x2 x3 x4 mi ma ml) : VV l E X cX6_line RX6 "line" 7 r_X6_line (some .int) (vpi (fun (r : Int32) (h' : AH) => ∃ (mi' : Nat → Int32) (ma' : Nat → Nat → Int32) (ml' : Nat → Nat → Int64), h' = (mH b mi' ma' ml') ∧ post r mi' ma' ml')) (mH b mi ma ml) 0 0 95 [(0, va_rf (some (b 0))), (1, .int x1), (2, .int x2), (3, .int x3), (4, .long x4)] [] := by
  refine v_aload_n (q := 0) dX6_line_95 rfl rfl ?_
  refine v_bipush dX6_line_96 bp_m3 ?_
  refine v_callV q1737 q1739 qs53 q113 q1740 (ci := 7) rfl (mH_obj hb) n_X6_no ⟨Nat.le_of_ble_eq_true rfl, Nat.le_of_ble_eq_true rfl⟩ [.int (-3)] [] (met_X6_no hb hw) rfl (Nat.zero_le _) ⟨Nat.le_refl _, Nat.le_refl _⟩ dX6_line_98 rfl (v_ki (fun z_3 h1 hv => ?_))
  clear hw
  obtain ⟨ma_4, rfl, hw⟩ := hv
  exact v_iret dX6_line_101 rfl ⟨_, rfl, _, _, _, rfl, hw⟩
theorem b_X6_line_242 {post : (Int32) → (Nat → Int32) → (Nat → Nat → Int32) → (Nat → Nat → Int64) → Prop}   {x1 : Int32} {x2 : Int32} {x3 : Int32} {x4 : Int64}  (hb : mOK b)   (x6 : Int32) (s0 : Int32) (mi : Nat → Int32) (ma : Nat → Nat → Int32) (ml : Nat → Nat → Int64) (hw : w_X6_line_242 post x1 x2 x3 x4 x6 s0 mi ma ml) : VV l E X cX6_line RX6 "line" 7 r_X6_line (some .int) (vpi (fun (r : Int32) (h' : AH) => ∃ (mi' : Nat → Int32) (ma' : Nat → Nat → Int32) (ml' : Nat → Nat → Int64), h' = (mH b mi' ma' ml') ∧ post r mi' ma' ml')) (mH b mi ma ml) 0 0 242 [(0, va_rf (some (b 0))), (1, .int x1), (2, .int x2), (3, .int x3), (4, .long x4), (6, .int x6)] [.int s0, va_rf (some (b 3))] := by
  refine v_bipush dX6_line_242 bp_12 ?_
  refine v_iload_n (q := 2) dX6_line_244 rfl rfl ?_
  refine v_imul dX6_line_245 ?_
  refine v_iadd dX6_line_246 ?_
  refine v_aload_n (q := 0) dX6_line_247 rfl rfl ?_
  refine vm_get hb 2 (Nat.le_of_ble_eq_true rfl) q1616 rfl dX6_line_248 rfl ?_
  refine v_iload (q := 5) dX6_line_251 rfl ?_
  obtain ⟨hi_5, hw⟩ := hw
  refine v_iald dX6_line_253 (mH_ar2 hb) hi_5 ?_
  refine v_iadd dX6_line_254 ?_
  refine v_lload (q := 4) dX6_line_255 rfl ?_
  refine v_callS q1759 q1760 q113 q1761 n_X6_plain ⟨Nat.le_of_ble_eq_true rfl, Nat.le_of_ble_eq_true rfl⟩ [.long x4] [.int ((s0 + ((nI 12) * x2)) + (ma 2 (x6).toNatClampNeg)), va_rf (some (b 3))] (met_X6_plain hw) rfl (by simp only [List.map_cons, List.map_nil, List.sum_cons, List.sum_nil, v_rf1, v_cI, v_cJ]; decide) ⟨Nat.le_refl _, Nat.le_refl _⟩ dX6_line_257 rfl (v_kl (fun y_6 h1 hv => ?_))
  clear hw
  obtain ⟨e9, hw⟩ := hv
  refine v_heap e9 ?_
  clear e9
  obtain ⟨hi_7, hw⟩ := hw
  obtain ⟨ml_8, eml_8⟩ : ∃ z9 : Nat → Nat → Int64, z9 = mupL ml 3 (((s0 + ((nI 12) * x2)) + (ma 2 (x6).toNatClampNeg))).toNatClampNeg y_6 := ⟨_, rfl⟩
  replace hw := hw ml_8 eml_8
  refine v_last dX6_line_260 (mH_ar3 hb) hi_7 ?_
  refine v_heap (h' := mH b mi ma ml_8) (by rw [eml_8]; exact mH_st3 hb) ?_
  refine v_aload_n (q := 0) dX6_line_261 rfl rfl ?_
  refine vm_get hb 2 (Nat.le_of_ble_eq_true rfl) q1616 rfl dX6_line_262 rfl ?_
  refine v_iload (q := 5) dX6_line_265 rfl ?_
  refine v_dup2 dX6_line_267 rfl (v_rf1 _) ?_
  obtain ⟨hi_9, hw⟩ := hw
  refine v_iald dX6_line_268 (mH_ar2 hb) hi_9 ?_
  refine v_iconst dX6_line_269 ic_1 ?_
  refine v_iadd dX6_line_270 ?_
  obtain ⟨hi_10, hw⟩ := hw
  obtain ⟨ma_11, ema_11⟩ : ∃ z9 : Nat → Nat → Int32, z9 = mup ma 2 (x6).toNatClampNeg ((ma 2 (x6).toNatClampNeg) + (nI 1)) := ⟨_, rfl⟩
  replace hw := hw ma_11 ema_11
  refine v_iast dX6_line_271 (mH_ar2 hb) hi_10 ?_
  refine v_heap (h' := mH b mi ma_11 ml_8) (by rw [ema_11]; exact mH_st2 hb) ?_
  refine v_aload_n (q := 0) dX6_line_272 rfl rfl ?_
  refine vm_get hb 2 (Nat.le_of_ble_eq_true rfl) q1616 rfl dX6_line_273 rfl ?_
  refine v_iload (q := 5) dX6_line_276 rfl ?_
  obtain ⟨hi_12, hw⟩ := hw
  refine v_iald dX6_line_278 (mH_ar2 hb) hi_12 ?_
  refine v_iconst dX6_line_279 ic_1 ?_
  refine v_isub dX6_line_280 ?_
  exact v_iret dX6_line_281 rfl ⟨_, rfl, _, _, _, rfl, hw⟩
theorem b_X6_line_206 {post : (Int32) → (Nat → Int32) → (Nat → Nat → Int32) → (Nat → Nat → Int64) → Prop}   {x1 : Int32} {x2 : Int32} {x3 : Int32} {x4 : Int64}  (hb : mOK b)   (s0 : Int32) (mi : Nat → Int32) (ma : Nat → Nat → Int32) (ml : Nat → Nat → Int64) (hw : w_X6_line_206 post x1 x2 x3 x4 s0 mi ma ml) : VV l E X cX6_line RX6 "line" 7 r_X6_line (some .int) (vpi (fun (r : Int32) (h' : AH) => ∃ (mi' : Nat → Int32) (ma' : Nat → Nat → Int32) (ml' : Nat → Nat → Int64), h' = (mH b mi' ma' ml') ∧ post r mi' ma' ml')) (mH b mi ma ml) 0 0 206 [(0, va_rf (some (b 0))), (1, .int x1), (2, .int x2), (3, .int x3), (4, .long x4)] [.int s0] := by
  refine v_istore (lv1 := [(6, .int s0), (0, va_rf (some (b 0))), (1, .int x1), (2, .int x2), (3, .int x3), (4, .long x4)]) dX6_line_206 (Nat.le_of_ble_eq_true rfl) rfl ?_
  refine v_aload_n (q := 1) dX6_line_208 rfl rfl ?_
  refine vm_get hb 2 (Nat.le_of_ble_eq_true rfl) q1616 rfl dX6_line_209 rfl ?_
  refine v_iload (q := 0) dX6_line_212 rfl ?_
  obtain ⟨hi_13, hw⟩ := hw
  refine v_iald dX6_line_214 (mH_ar2 hb) hi_13 ?_
  refine v_bipush dX6_line_215 bp_12 ?_
  obtain ⟨hw_16, hw_17⟩ := hw
  refine v_icmp_ne (tgt := 227) dX6_line_217 (by decide) (fun c_14 => ?_) (fun c_15 => ?_)
  · have hw := hw_16 c_14
    refine v_aload_n (q := 1) dX6_line_227 rfl rfl ?_
    refine vm_get hb 3 (Nat.le_of_ble_eq_true rfl) q1617 rfl dX6_line_228 rfl ?_
    refine v_iload_n (q := 2) dX6_line_231 rfl rfl ?_
    obtain ⟨hw_20, hw_21⟩ := hw
    refine v_if_ne (tgt := 239) dX6_line_232 (by decide) (fun c_18 => ?_) (fun c_19 => ?_)
    · have hw := hw_20 c_18
      refine v_sipush dX6_line_239 sp_540 ?_
      refine v_sub [1, 2, 3, 4, 5, 0] rfl ?_
      exact b_X6_line_242 hb s0 (nI 540) mi ma ml hw
    · have hw := hw_21 c_19
      refine v_iconst dX6_line_235 ic_0 ?_
      refine v_goto (tgt := 242) dX6_line_236 (by decide) ?_
      refine v_sub [1, 2, 3, 4, 5, 0] rfl ?_
      exact b_X6_line_242 hb s0 (nI 0) mi ma ml hw
  · have hw := hw_17 c_15
    refine v_aload_n (q := 1) dX6_line_220 rfl rfl ?_
    refine v_bipush dX6_line_221 bp_m4 ?_
    refine v_callV q1737 q1739 qs53 q113 q1740 (ci := 7) rfl (mH_obj hb) n_X6_no ⟨Nat.le_of_ble_eq_true rfl, Nat.le_of_ble_eq_true rfl⟩ [.int (-4)] [] (met_X6_no hb hw) rfl (Nat.zero_le _) ⟨Nat.le_refl _, Nat.le_refl _⟩ dX6_line_223 rfl (v_ki (fun z_22 h1 hv => ?_))
    clear hw
    obtain ⟨ma_23, rfl, hw⟩ := hv
    exact v_iret dX6_line_226 rfl ⟨_, rfl, _, _, _, rfl, hw⟩
theorem b_X6_line_102 {post : (Int32) → (Nat → Int32) → (Nat → Nat → Int32) → (Nat → Nat → Int64) → Prop}   {x1 : Int32} {x2 : Int32} {x3 : Int32} {x4 : Int64}  (hb : mOK b)   (mi : Nat → Int32) (ma : Nat → Nat → Int32) (ml : Nat → Nat → Int64) (hw : w_X6_line_102 post x1 x2 x3 x4 mi ma ml) : VV l E X cX6_line RX6 "line" 7 r_X6_line (some .int) (vpi (fun (r : Int32) (h' : AH) => ∃ (mi' : Nat → Int32) (ma' : Nat → Nat → Int32) (ml' : Nat → Nat → Int64), h' = (mH b mi' ma' ml') ∧ post r mi' ma' ml')) (mH b mi ma ml) 0 0 102 [(0, va_rf (some (b 0))), (1, .int x1), (2, .int x2), (3, .int x3), (4, .long x4)] [] := by
  refine v_iload_n (q := 1) dX6_line_102 rfl rfl ?_
  refine v_iconst dX6_line_103 ic_2 ?_
  obtain ⟨hw_26, hw_27⟩ := hw
  refine v_icmp_ne (tgt := 190) dX6_line_104 (by decide) (fun c_24 => ?_) (fun c_25 => ?_)
  · have hw := hw_26 c_24
    refine v_iload_n (q := 1) dX6_line_190 rfl rfl ?_
    obtain ⟨hw_30, hw_31⟩ := hw
    refine v_if_ne (tgt := 201) dX6_line_191 (by decide) (fun c_28 => ?_) (fun c_29 => ?_)
    · have hw := hw_30 c_28
      refine v_sipush dX6_line_201 sp_236 ?_
      refine v_iload_n (q := 2) dX6_line_204 rfl rfl ?_
      refine v_iadd dX6_line_205 ?_
      refine v_sub [0, 1, 2, 3, 4] rfl ?_
      exact b_X6_line_206 hb ((nI 236) + x2) mi ma ml hw
    · have hw := hw_31 c_29
      refine v_bipush dX6_line_194 bp_121 ?_
      refine v_iload_n (q := 2) dX6_line_196 rfl rfl ?_
      refine v_iadd dX6_line_197 ?_
      refine v_goto (tgt := 206) dX6_line_198 (by decide) ?_
      refine v_sub [0, 1, 2, 3, 4] rfl ?_
      exact b_X6_line_206 hb ((nI 121) + x2) mi ma ml hw
  · have hw := hw_27 c_25
    refine v_aload_n (q := 0) dX6_line_107 rfl rfl ?_
    refine vm_get hb 2 (Nat.le_of_ble_eq_true rfl) q1616 rfl dX6_line_108 rfl ?_
    refine v_sipush dX6_line_111 sp_162 ?_
    obtain ⟨hi_32, hw⟩ := hw
    refine v_iald dX6_line_114 (mH_ar2 hb) hi_32 ?_
    refine v_bipush dX6_line_115 bp_60 ?_
    obtain ⟨hw_35, hw_36⟩ := hw
    refine v_icmp_ne (tgt := 127) dX6_line_117 (by decide) (fun c_33 => ?_) (fun c_34 => ?_)
    · have hw := hw_35 c_33
      refine v_aload_n (q := 0) dX6_line_127 rfl rfl ?_
      refine vm_get hb 2 (Nat.le_of_ble_eq_true rfl) q1616 rfl dX6_line_128 rfl ?_
      refine v_sipush dX6_line_131 sp_163 ?_
      refine v_aload_n (q := 0) dX6_line_134 rfl rfl ?_
      refine vm_get hb 2 (Nat.le_of_ble_eq_true rfl) q1616 rfl dX6_line_135 rfl ?_
      refine v_sipush dX6_line_138 sp_162 ?_
      obtain ⟨hi_37, hw⟩ := hw
      refine v_iald dX6_line_141 (mH_ar2 hb) hi_37 ?_
      refine v_iadd dX6_line_142 ?_
      refine v_iload_n (q := 3) dX6_line_143 rfl rfl ?_
      obtain ⟨hi_38, hw⟩ := hw
      obtain ⟨ma_39, ema_39⟩ : ∃ z9 : Nat → Nat → Int32, z9 = mup ma 2 (((nI 163) + (ma 2 ((nI 162)).toNatClampNeg))).toNatClampNeg x3 := ⟨_, rfl⟩
      replace hw := hw ma_39 ema_39
      refine v_iast dX6_line_144 (mH_ar2 hb) hi_38 ?_
      refine v_heap (h' := mH b mi ma_39 ml) (by rw [ema_39]; exact mH_st2 hb) ?_
      refine v_aload_n (q := 0) dX6_line_145 rfl rfl ?_
      refine vm_get hb 3 (Nat.le_of_ble_eq_true rfl) q1617 rfl dX6_line_146 rfl ?_
      refine v_sipush dX6_line_149 sp_480 ?_
      refine v_aload_n (q := 0) dX6_line_152 rfl rfl ?_
      refine vm_get hb 2 (Nat.le_of_ble_eq_true rfl) q1616 rfl dX6_line_153 rfl ?_
      refine v_sipush dX6_line_156 sp_162 ?_
      obtain ⟨hi_40, hw⟩ := hw
      refine v_iald dX6_line_159 (mH_ar2 hb) hi_40 ?_
      refine v_iadd dX6_line_160 ?_
      refine v_lload (q := 4) dX6_line_161 rfl ?_
      refine v_callS q1759 q1760 q113 q1761 n_X6_plain ⟨Nat.le_of_ble_eq_true rfl, Nat.le_of_ble_eq_true rfl⟩ [.long x4] [.int ((nI 480) + (ma_39 2 ((nI 162)).toNatClampNeg)), va_rf (some (b 3))] (met_X6_plain hw) rfl (by simp only [List.map_cons, List.map_nil, List.sum_cons, List.sum_nil, v_rf1, v_cI, v_cJ]; decide) ⟨Nat.le_refl _, Nat.le_refl _⟩ dX6_line_163 rfl (v_kl (fun y_41 h1 hv => ?_))
      clear hw
      obtain ⟨e9, hw⟩ := hv
      refine v_heap e9 ?_
      clear e9
      obtain ⟨hi_42, hw⟩ := hw
      obtain ⟨ml_43, eml_43⟩ : ∃ z9 : Nat → Nat → Int64, z9 = mupL ml 3 (((nI 480) + (ma_39 2 ((nI 162)).toNatClampNeg))).toNatClampNeg y_41 := ⟨_, rfl⟩
      replace hw := hw ml_43 eml_43
      refine v_last dX6_line_166 (mH_ar3 hb) hi_42 ?_
      refine v_heap (h' := mH b mi ma_39 ml_43) (by rw [eml_43]; exact mH_st3 hb) ?_
      refine v_aload_n (q := 0) dX6_line_167 rfl rfl ?_
      refine vm_get hb 2 (Nat.le_of_ble_eq_true rfl) q1616 rfl dX6_line_168 rfl ?_
      refine v_sipush dX6_line_171 sp_162 ?_
      refine v_dup2 dX6_line_174 rfl (v_rf1 _) ?_
      obtain ⟨hi_44, hw⟩ := hw
      refine v_iald dX6_line_175 (mH_ar2 hb) hi_44 ?_
      refine v_iconst dX6_line_176 ic_1 ?_
      refine v_iadd dX6_line_177 ?_
      obtain ⟨hi_45, hw⟩ := hw
      obtain ⟨ma_46, ema_46⟩ : ∃ z9 : Nat → Nat → Int32, z9 = mup ma_39 2 ((nI 162)).toNatClampNeg ((ma_39 2 ((nI 162)).toNatClampNeg) + (nI 1)) := ⟨_, rfl⟩
      replace hw := hw ma_46 ema_46
      refine v_iast dX6_line_178 (mH_ar2 hb) hi_45 ?_
      refine v_heap (h' := mH b mi ma_46 ml_43) (by rw [ema_46]; exact mH_st2 hb) ?_
      refine v_aload_n (q := 0) dX6_line_179 rfl rfl ?_
      refine vm_get hb 2 (Nat.le_of_ble_eq_true rfl) q1616 rfl dX6_line_180 rfl ?_
      refine v_sipush dX6_line_183 sp_162 ?_
      obtain ⟨hi_47, hw⟩ := hw
      refine v_iald dX6_line_186 (mH_ar2 hb) hi_47 ?_
      refine v_iconst dX6_line_187 ic_1 ?_
      refine v_isub dX6_line_188 ?_
      exact v_iret dX6_line_189 rfl ⟨_, rfl, _, _, _, rfl, hw⟩
    · have hw := hw_36 c_34
      refine v_aload_n (q := 0) dX6_line_120 rfl rfl ?_
      refine v_bipush dX6_line_121 bp_m4 ?_
      refine v_callV q1737 q1739 qs53 q113 q1740 (ci := 7) rfl (mH_obj hb) n_X6_no ⟨Nat.le_of_ble_eq_true rfl, Nat.le_of_ble_eq_true rfl⟩ [.int (-4)] [] (met_X6_no hb hw) rfl (Nat.zero_le _) ⟨Nat.le_refl _, Nat.le_refl _⟩ dX6_line_123 rfl (v_ki (fun z_48 h1 hv => ?_))
      clear hw
      obtain ⟨ma_49, rfl, hw⟩ := hv
      exact v_iret dX6_line_126 rfl ⟨_, rfl, _, _, _, rfl, hw⟩
theorem b_X6_line_70 {post : (Int32) → (Nat → Int32) → (Nat → Nat → Int32) → (Nat → Nat → Int64) → Prop}   {x1 : Int32} {x2 : Int32} {x3 : Int32} {x4 : Int64}  (hb : mOK b)   (mi : Nat → Int32) (ma : Nat → Nat → Int32) (ml : Nat → Nat → Int64) (hw : w_X6_line_70 post x1 x2 x3 x4 mi ma ml) : VV l E X cX6_line RX6 "line" 7 r_X6_line (some .int) (vpi (fun (r : Int32) (h' : AH) => ∃ (mi' : Nat → Int32) (ma' : Nat → Nat → Int32) (ml' : Nat → Nat → Int64), h' = (mH b mi' ma' ml') ∧ post r mi' ma' ml')) (mH b mi ma ml) 0 0 70 [(0, va_rf (some (b 0))), (1, .int x1), (2, .int x2), (3, .int x3), (4, .long x4)] [] := by
  refine v_lload (q := 4) dX6_line_70 rfl ?_
  refine v_callS q1753 q1754 q113 q1755 n_X6_lengthOf ⟨Nat.le_of_ble_eq_true rfl, Nat.le_of_ble_eq_true rfl⟩ [.long x4] [] (met_X6_lengthOf hw) rfl (Nat.zero_le _) ⟨Nat.le_refl _, Nat.le_refl _⟩ dX6_line_72 rfl (v_ki (fun z_50 h1 hv => ?_))
  clear hw
  obtain ⟨e9, hw⟩ := hv
  refine v_heap e9 ?_
  clear e9
  obtain ⟨hw_53, hw_54⟩ := hw
  refine v_if_eq (tgt := 95) dX6_line_75 (by decide) (fun c_51 => ?_) (fun c_52 => ?_)
  · have hw := hw_53 c_51
    refine v_sub [0, 1, 2, 3, 4] rfl ?_
    exact b_X6_line_95 hb mi ma ml hw
  · have hw := hw_54 c_52
    refine v_iload_n (q := 1) dX6_line_78 rfl rfl ?_
    refine v_iconst dX6_line_79 ic_2 ?_
    obtain ⟨hw_57, hw_58⟩ := hw
    refine v_icmp_ne (tgt := 102) dX6_line_80 (by decide) (fun c_55 => ?_) (fun c_56 => ?_)
    · have hw := hw_57 c_55
      refine v_sub [0, 1, 2, 3, 4] rfl ?_
      exact b_X6_line_102 hb mi ma ml hw
    · have hw := hw_58 c_56
      refine v_iload_n (q := 3) dX6_line_83 rfl rfl ?_
      refine v_i2l dX6_line_84 ?_
      refine v_lconst (v := lN 0) dX6_line_85 rfl ?_
      refine v_ldc2 (v := (lN 9)) dX6_line_86 q1741 ?_
      refine v_callS q1734 q1735 q113 q1736 n_X6_within ⟨Nat.le_of_ble_eq_true rfl, Nat.le_of_ble_eq_true rfl⟩ [.long ((x3).toInt64), .long (lN 0), .long (lN 9)] [] (met_X6_within hw) rfl (Nat.zero_le _) ⟨Nat.le_refl _, Nat.le_refl _⟩ dX6_line_89 rfl (v_ki (fun z_59 h1 hv => ?_))
      clear hw
      obtain ⟨e9, hw⟩ := hv
      refine v_heap e9 ?_
      clear e9
      obtain ⟨hw_62, hw_63⟩ := hw
      refine v_if_ne (tgt := 102) dX6_line_92 (by decide) (fun c_60 => ?_) (fun c_61 => ?_)
      · have hw := hw_62 c_60
        refine v_sub [0, 1, 2, 3, 4] rfl ?_
        exact b_X6_line_102 hb mi ma ml hw
      · have hw := hw_63 c_61
        refine v_sub [0, 1, 2, 3, 4] rfl ?_
        exact b_X6_line_95 hb mi ma ml hw
theorem e_X6_line {post : (Int32) → (Nat → Int32) → (Nat → Nat → Int32) → (Nat → Nat → Int64) → Prop}   {x1 : Int32} {x2 : Int32} {x3 : Int32} {x4 : Int64} {mi : Nat → Int32} {ma : Nat → Nat → Int32} {ml : Nat → Nat → Int64} (hb : mOK b)  (hw : w_X6_line post  x1 x2 x3 x4 mi ma ml) : VV l E X cX6_line RX6 "line" 7 r_X6_line (some .int) (vpi (fun (r : Int32) (h' : AH) => ∃ (mi' : Nat → Int32) (ma' : Nat → Nat → Int32) (ml' : Nat → Nat → Int64), h' = (mH b mi' ma' ml') ∧ post r mi' ma' ml')) (mH b mi ma ml) 0 0 0 [(0, va_rf (some (b 0))), (1, .int x1), (2, .int x2), (3, .int x3), (4, .long x4)] [] := by
  refine v_aload_n (q := 0) dX6_line_0 rfl rfl ?_
  refine v_iconst dX6_line_1 ic_0 ?_
  obtain ⟨mi_64, emi_64⟩ : ∃ z9 : Nat → Int32, z9 = upd mi 0 (nI 0) := ⟨_, rfl⟩
  replace hw := hw mi_64 emi_64
  refine vm_put hb 0 (Nat.le_of_ble_eq_true rfl) q1614 rfl rfl rfl dX6_line_2 emi_64 rfl ?_
  refine v_iload_n (q := 1) dX6_line_5 rfl rfl ?_
  obtain ⟨hw_67, hw_68⟩ := hw
  refine v_if_ne (tgt := 30) dX6_line_6 (by decide) (fun c_65 => ?_) (fun c_66 => ?_)
  · have hw := hw_67 c_65
    refine v_iload_n (q := 1) dX6_line_30 rfl rfl ?_
    refine v_iconst dX6_line_31 ic_1 ?_
    obtain ⟨hw_71, hw_72⟩ := hw
    refine v_icmp_ne (tgt := 58) dX6_line_32 (by decide) (fun c_69 => ?_) (fun c_70 => ?_)
    · have hw := hw_71 c_69
      refine v_iload_n (q := 1) dX6_line_58 rfl rfl ?_
      refine v_iconst dX6_line_59 ic_2 ?_
      obtain ⟨hw_75, hw_76⟩ := hw
      refine v_icmp_eq (tgt := 70) dX6_line_60 (by decide) (fun c_73 => ?_) (fun c_74 => ?_)
      · have hw := hw_75 c_73
        refine v_sub [0, 1, 2, 3, 4] rfl ?_
        exact b_X6_line_70 hb mi_64 ma ml hw
      · have hw := hw_76 c_74
        refine v_sub [0, 1, 2, 3, 4] rfl ?_
        exact b_X6_line_63 hb mi_64 ma ml hw
    · have hw := hw_72 c_70
      refine v_iload_n (q := 2) dX6_line_35 rfl rfl ?_
      refine v_i2l dX6_line_36 ?_
      refine v_lconst (v := lN 0) dX6_line_37 rfl ?_
      refine v_aload_n (q := 0) dX6_line_38 rfl rfl ?_
      refine vm_get hb 2 (Nat.le_of_ble_eq_true rfl) q1616 rfl dX6_line_39 rfl ?_
      refine v_sipush dX6_line_42 sp_223 ?_
      obtain ⟨hi_77, hw⟩ := hw
      refine v_iald dX6_line_45 (mH_ar2 hb) hi_77 ?_
      refine v_iconst dX6_line_46 ic_1 ?_
      refine v_isub dX6_line_47 ?_
      refine v_i2l dX6_line_48 ?_
      refine v_callS q1734 q1735 q113 q1736 n_X6_within ⟨Nat.le_of_ble_eq_true rfl, Nat.le_of_ble_eq_true rfl⟩ [.long ((x2).toInt64), .long (lN 0), .long ((((ma 2 ((nI 223)).toNatClampNeg) - (nI 1))).toInt64)] [] (met_X6_within hw) rfl (Nat.zero_le _) ⟨Nat.le_refl _, Nat.le_refl _⟩ dX6_line_49 rfl (v_ki (fun z_78 h1 hv => ?_))
      clear hw
      obtain ⟨e9, hw⟩ := hv
      refine v_heap e9 ?_
      clear e9
      obtain ⟨hw_81, hw_82⟩ := hw
      refine v_if_ne (tgt := 70) dX6_line_52 (by decide) (fun c_79 => ?_) (fun c_80 => ?_)
      · have hw := hw_81 c_79
        refine v_sub [0, 1, 2, 3, 4] rfl ?_
        exact b_X6_line_70 hb mi_64 ma ml hw
      · have hw := hw_82 c_80
        refine v_goto (tgt := 63) dX6_line_55 (by decide) ?_
        refine v_sub [0, 1, 2, 3, 4] rfl ?_
        exact b_X6_line_63 hb mi_64 ma ml hw
  · have hw := hw_68 c_66
    refine v_iload_n (q := 2) dX6_line_9 rfl rfl ?_
    refine v_i2l dX6_line_10 ?_
    refine v_lconst (v := lN 0) dX6_line_11 rfl ?_
    refine v_aload_n (q := 0) dX6_line_12 rfl rfl ?_
    refine vm_get hb 2 (Nat.le_of_ble_eq_true rfl) q1616 rfl dX6_line_13 rfl ?_
    refine v_iconst dX6_line_16 ic_0 ?_
    obtain ⟨hi_83, hw⟩ := hw
    refine v_iald dX6_line_17 (mH_ar2 hb) hi_83 ?_
    refine v_iconst dX6_line_18 ic_1 ?_
    refine v_isub dX6_line_19 ?_
    refine v_i2l dX6_line_20 ?_
    refine v_callS q1734 q1735 q113 q1736 n_X6_within ⟨Nat.le_of_ble_eq_true rfl, Nat.le_of_ble_eq_true rfl⟩ [.long ((x2).toInt64), .long (lN 0), .long ((((ma 2 ((nI 0)).toNatClampNeg) - (nI 1))).toInt64)] [] (met_X6_within hw) rfl (Nat.zero_le _) ⟨Nat.le_refl _, Nat.le_refl _⟩ dX6_line_21 rfl (v_ki (fun z_84 h1 hv => ?_))
    clear hw
    obtain ⟨e9, hw⟩ := hv
    refine v_heap e9 ?_
    clear e9
    obtain ⟨hw_87, hw_88⟩ := hw
    refine v_if_ne (tgt := 70) dX6_line_24 (by decide) (fun c_85 => ?_) (fun c_86 => ?_)
    · have hw := hw_87 c_85
      refine v_sub [0, 1, 2, 3, 4] rfl ?_
      exact b_X6_line_70 hb mi_64 ma ml hw
    · have hw := hw_88 c_86
      refine v_goto (tgt := 63) dX6_line_27 (by decide) ?_
      refine v_sub [0, 1, 2, 3, 4] rfl ?_
      exact b_X6_line_63 hb mi_64 ma ml hw
theorem met_X6_line {post : (Int32) → (Nat → Int32) → (Nat → Nat → Int32) → (Nat → Nat → Int64) → Prop}   {x1 : Int32} {x2 : Int32} {x3 : Int32} {x4 : Int64} {mi : Nat → Int32} {ma : Nat → Nat → Int32} {ml : Nat → Nat → Int64} (hb : mOK b)  (hw : w_X6_line post  x1 x2 x3 x4 mi ma ml) : Mt l E yX6_line (ws_ yX6_line cX6_line 7 (some .int)) r_X6_line [va_rf (some (b 0)), .int x1, .int x2, .int x3, .long x4] (mH b mi ma ml) (vpi (fun (r : Int32) (h' : AH) => ∃ (mi' : Nat → Int32) (ma' : Nat → Nat → Int32) (ml' : Nat → Nat → Int64), h' = (mH b mi' ma' ml') ∧ post r mi' ma' ml')) := v_entry (by decide +kernel) (Nat.le_of_ble_eq_true rfl) rfl (fun _ => e_X6_line hb hw)
/-! X6_print -/
abbrev r_X6_print : Room := { frames := 1, cells := 0, slots := 0, locals := 25 }
theorem n_X6_print : vdn yX6_print 1 := ⟨by decide +kernel, by decide +kernel, by decide +kernel⟩
def w_X6_print (post : (Int32) → (Nat → Int32) → (Nat → Nat → Int32) → Prop) (x1 : Int32) (mi : Nat → Int32) (ma : Nat → Nat → Int32) (ml : Nat → Nat → Int64) : Prop :=
 (∀ mi_1 : Nat → Int32, mi_1 = upd mi 0 (nI 0) → (w_X6_within (fun (z_2 : Int32) => ((¬ z_2 = 0 → (vp_in (nI 161) 3372 ∧ (∀ z_8 : Int32, z_8 = (ma 2 ((nI 161)).toNatClampNeg) → (vp_in (nI 161) 3372 ∧ ∀ ma_10 : Nat → Nat → Int32, ma_10 = mup ma 2 ((nI 161)).toNatClampNeg x1 → (post z_8 mi_1 ma_10))))) ∧ (z_2 = 0 → (w_X6_no (fun (z_11 : Int32) (ma_12 : Nat → Nat → Int32) => (post z_11 mi_1 ma_12)) (-3) mi_1 ma ml)))) ((x1).toInt64) (lN 0) (lN 9999)))
theorem e_X6_print {post : (Int32) → (Nat → Int32) → (Nat → Nat → Int32) → Prop}   {x1 : Int32} {mi : Nat → Int32} {ma : Nat → Nat → Int32} {ml : Nat → Nat → Int64} (hb : mOK b)  (hw : w_X6_print post  x1 mi ma ml) : VV l E X cX6_print RX6 "print" 3 r_X6_print (some .int) (vpi (fun (r : Int32) (h' : AH) => ∃ (mi' : Nat → Int32) (ma' : Nat → Nat → Int32), h' = (mH b mi' ma' ml) ∧ post r mi' ma')) (mH b mi ma ml) 0 0 0 [(0, va_rf (some (b 0))), (1, .int x1)] [] := by
  refine v_aload_n (q := 0) dX6_print_0 rfl rfl ?_
  refine v_iconst dX6_print_1 ic_0 ?_
  obtain ⟨mi_1, emi_1⟩ : ∃ z9 : Nat → Int32, z9 = upd mi 0 (nI 0) := ⟨_, rfl⟩
  replace hw := hw mi_1 emi_1
  refine vm_put hb 0 (Nat.le_of_ble_eq_true rfl) q1614 rfl rfl rfl dX6_print_2 emi_1 rfl ?_
  refine v_iload_n (q := 1) dX6_print_5 rfl rfl ?_
  refine v_i2l dX6_print_6 ?_
  refine v_lconst (v := lN 0) dX6_print_7 rfl ?_
  refine v_ldc2 (v := (lN 9999)) dX6_print_8 q1743 ?_
  refine v_callS q1734 q1735 q113 q1736 n_X6_within ⟨Nat.le_of_ble_eq_true rfl, Nat.le_of_ble_eq_true rfl⟩ [.long ((x1).toInt64), .long (lN 0), .long (lN 9999)] [] (met_X6_within hw) rfl (Nat.zero_le _) ⟨Nat.le_refl _, Nat.le_refl _⟩ dX6_print_11 rfl (v_ki (fun z_2 h1 hv => ?_))
  clear hw
  obtain ⟨e9, hw⟩ := hv
  refine v_heap e9 ?_
  clear e9
  obtain ⟨hw_5, hw_6⟩ := hw
  refine v_if_ne (tgt := 24) dX6_print_14 (by decide) (fun c_3 => ?_) (fun c_4 => ?_)
  · have hw := hw_5 c_3
    refine v_aload_n (q := 0) dX6_print_24 rfl rfl ?_
    refine vm_get hb 2 (Nat.le_of_ble_eq_true rfl) q1616 rfl dX6_print_25 rfl ?_
    refine v_sipush dX6_print_28 sp_161 ?_
    obtain ⟨hi_7, hw⟩ := hw
    refine v_iald dX6_print_31 (mH_ar2 hb) hi_7 ?_
    refine v_topi (fun z_8 e_8 => ?_)
    replace hw := hw z_8 e_8
    refine v_istore_n (lv1 := [(2, .int z_8), (0, va_rf (some (b 0))), (1, .int x1)]) dX6_print_32 rfl (Nat.le_of_ble_eq_true rfl) rfl ?_
    refine v_aload_n (q := 1) dX6_print_33 rfl rfl ?_
    refine vm_get hb 2 (Nat.le_of_ble_eq_true rfl) q1616 rfl dX6_print_34 rfl ?_
    refine v_sipush dX6_print_37 sp_161 ?_
    refine v_iload_n (q := 2) dX6_print_40 rfl rfl ?_
    obtain ⟨hi_9, hw⟩ := hw
    obtain ⟨ma_10, ema_10⟩ : ∃ z9 : Nat → Nat → Int32, z9 = mup ma 2 ((nI 161)).toNatClampNeg x1 := ⟨_, rfl⟩
    replace hw := hw ma_10 ema_10
    refine v_iast dX6_print_41 (mH_ar2 hb) hi_9 ?_
    refine v_heap (h' := mH b mi_1 ma_10 ml) (by rw [ema_10]; exact mH_st2 hb) ?_
    refine v_iload_n (q := 0) dX6_print_42 rfl rfl ?_
    exact v_iret dX6_print_43 rfl ⟨_, rfl, _, _, rfl, hw⟩
  · have hw := hw_6 c_4
    refine v_aload_n (q := 0) dX6_print_17 rfl rfl ?_
    refine v_bipush dX6_print_18 bp_m3 ?_
    refine v_callV q1737 q1739 qs53 q113 q1740 (ci := 7) rfl (mH_obj hb) n_X6_no ⟨Nat.le_of_ble_eq_true rfl, Nat.le_of_ble_eq_true rfl⟩ [.int (-3)] [] (met_X6_no hb hw) rfl (Nat.zero_le _) ⟨Nat.le_refl _, Nat.le_refl _⟩ dX6_print_20 rfl (v_ki (fun z_11 h1 hv => ?_))
    clear hw
    obtain ⟨ma_12, rfl, hw⟩ := hv
    exact v_iret dX6_print_23 rfl ⟨_, rfl, _, _, rfl, hw⟩
theorem met_X6_print {post : (Int32) → (Nat → Int32) → (Nat → Nat → Int32) → Prop}   {x1 : Int32} {mi : Nat → Int32} {ma : Nat → Nat → Int32} {ml : Nat → Nat → Int64} (hb : mOK b)  (hw : w_X6_print post  x1 mi ma ml) : Mt l E yX6_print (ws_ yX6_print cX6_print 3 (some .int)) r_X6_print [va_rf (some (b 0)), .int x1] (mH b mi ma ml) (vpi (fun (r : Int32) (h' : AH) => ∃ (mi' : Nat → Int32) (ma' : Nat → Nat → Int32), h' = (mH b mi' ma' ml) ∧ post r mi' ma')) := v_entry (by decide +kernel) (Nat.le_of_ble_eq_true rfl) rfl (fun _ => e_X6_print hb hw)
/-! X6_bounds -/
abbrev r_X6_bounds : Room := { frames := 1, cells := 0, slots := 0, locals := 25 }
theorem n_X6_bounds : vdn yX6_bounds 2 := ⟨by decide +kernel, by decide +kernel, by decide +kernel⟩
def w_X6_bounds_28 (post : (Int32) → (Nat → Int32) → (Nat → Nat → Int32) → Prop) (x1 : Int32) (x2 : Int32) (ml : Nat → Nat → Int64) (mi : Nat → Int32) (ma : Nat → Nat → Int32) : Prop :=
 (w_X6_no (fun (z_1 : Int32) (ma_2 : Nat → Nat → Int32) => (post z_1 mi ma_2)) (-3) mi ma ml)
def w_X6_bounds (post : (Int32) → (Nat → Int32) → (Nat → Nat → Int32) → Prop) (x1 : Int32) (x2 : Int32) (mi : Nat → Int32) (ma : Nat → Nat → Int32) (ml : Nat → Nat → Int64) : Prop :=
 (∀ mi_3 : Nat → Int32, mi_3 = upd mi 0 (nI 0) → (w_X6_within (fun (z_4 : Int32) => ((z_4 = 0 → (w_X6_bounds_28 post x1 x2 ml mi_3 ma)) ∧ (¬ z_4 = 0 → (w_X6_within (fun (z_9 : Int32) => ((¬ z_9 = 0 → (vp_in (nI 248) 3372 ∧ ∀ ma_15 : Nat → Nat → Int32, ma_15 = mup ma 2 ((nI 248)).toNatClampNeg x1 → (vp_in (nI 249) 3372 ∧ ∀ ma_17 : Nat → Nat → Int32, ma_17 = mup ma_15 2 ((nI 249)).toNatClampNeg x2 → (post (nI 0) mi_3 ma_17)))) ∧ (z_9 = 0 → (w_X6_bounds_28 post x1 x2 ml mi_3 ma)))) ((x2).toInt64) (lN 1) ((x1).toInt64))))) ((x1).toInt64) (lN 1) (lN 100)))
theorem b_X6_bounds_28 {post : (Int32) → (Nat → Int32) → (Nat → Nat → Int32) → Prop}   {x1 : Int32} {x2 : Int32} {ml : Nat → Nat → Int64}  (hb : mOK b)   (mi : Nat → Int32) (ma : Nat → Nat → Int32) (hw : w_X6_bounds_28 post x1 x2 ml mi ma) : VV l E X cX6_bounds RX6 "bounds" 3 r_X6_bounds (some .int) (vpi (fun (r : Int32) (h' : AH) => ∃ (mi' : Nat → Int32) (ma' : Nat → Nat → Int32), h' = (mH b mi' ma' ml) ∧ post r mi' ma')) (mH b mi ma ml) 0 0 28 [(0, va_rf (some (b 0))), (1, .int x1), (2, .int x2)] [] := by
  refine v_aload_n (q := 0) dX6_bounds_28 rfl rfl ?_
  refine v_bipush dX6_bounds_29 bp_m3 ?_
  refine v_callV q1737 q1739 qs53 q113 q1740 (ci := 7) rfl (mH_obj hb) n_X6_no ⟨Nat.le_of_ble_eq_true rfl, Nat.le_of_ble_eq_true rfl⟩ [.int (-3)] [] (met_X6_no hb hw) rfl (Nat.zero_le _) ⟨Nat.le_refl _, Nat.le_refl _⟩ dX6_bounds_31 rfl (v_ki (fun z_1 h1 hv => ?_))
  clear hw
  obtain ⟨ma_2, rfl, hw⟩ := hv
  exact v_iret dX6_bounds_34 rfl ⟨_, rfl, _, _, rfl, hw⟩
theorem e_X6_bounds {post : (Int32) → (Nat → Int32) → (Nat → Nat → Int32) → Prop}   {x1 : Int32} {x2 : Int32} {mi : Nat → Int32} {ma : Nat → Nat → Int32} {ml : Nat → Nat → Int64} (hb : mOK b)  (hw : w_X6_bounds post  x1 x2 mi ma ml) : VV l E X cX6_bounds RX6 "bounds" 3 r_X6_bounds (some .int) (vpi (fun (r : Int32) (h' : AH) => ∃ (mi' : Nat → Int32) (ma' : Nat → Nat → Int32), h' = (mH b mi' ma' ml) ∧ post r mi' ma')) (mH b mi ma ml) 0 0 0 [(0, va_rf (some (b 0))), (1, .int x1), (2, .int x2)] [] := by
  refine v_aload_n (q := 0) dX6_bounds_0 rfl rfl ?_
  refine v_iconst dX6_bounds_1 ic_0 ?_
  obtain ⟨mi_3, emi_3⟩ : ∃ z9 : Nat → Int32, z9 = upd mi 0 (nI 0) := ⟨_, rfl⟩
  replace hw := hw mi_3 emi_3
  refine vm_put hb 0 (Nat.le_of_ble_eq_true rfl) q1614 rfl rfl rfl dX6_bounds_2 emi_3 rfl ?_
  refine v_iload_n (q := 1) dX6_bounds_5 rfl rfl ?_
  refine v_i2l dX6_bounds_6 ?_
  refine v_lconst (v := lN 1) dX6_bounds_7 rfl ?_
  refine v_ldc2 (v := (lN 100)) dX6_bounds_8 q1770 ?_
  refine v_callS q1734 q1735 q113 q1736 n_X6_within ⟨Nat.le_of_ble_eq_true rfl, Nat.le_of_ble_eq_true rfl⟩ [.long ((x1).toInt64), .long (lN 1), .long (lN 100)] [] (met_X6_within hw) rfl (Nat.zero_le _) ⟨Nat.le_refl _, Nat.le_refl _⟩ dX6_bounds_11 rfl (v_ki (fun z_4 h1 hv => ?_))
  clear hw
  obtain ⟨e9, hw⟩ := hv
  refine v_heap e9 ?_
  clear e9
  obtain ⟨hw_7, hw_8⟩ := hw
  refine v_if_eq (tgt := 28) dX6_bounds_14 (by decide) (fun c_5 => ?_) (fun c_6 => ?_)
  · have hw := hw_7 c_5
    refine v_sub [0, 1, 2] rfl ?_
    exact b_X6_bounds_28 hb mi_3 ma hw
  · have hw := hw_8 c_6
    refine v_iload_n (q := 2) dX6_bounds_17 rfl rfl ?_
    refine v_i2l dX6_bounds_18 ?_
    refine v_lconst (v := lN 1) dX6_bounds_19 rfl ?_
    refine v_iload_n (q := 1) dX6_bounds_20 rfl rfl ?_
    refine v_i2l dX6_bounds_21 ?_
    refine v_callS q1734 q1735 q113 q1736 n_X6_within ⟨Nat.le_of_ble_eq_true rfl, Nat.le_of_ble_eq_true rfl⟩ [.long ((x2).toInt64), .long (lN 1), .long ((x1).toInt64)] [] (met_X6_within hw) rfl (Nat.zero_le _) ⟨Nat.le_refl _, Nat.le_refl _⟩ dX6_bounds_22 rfl (v_ki (fun z_9 h1 hv => ?_))
    clear hw
    obtain ⟨e9, hw⟩ := hv
    refine v_heap e9 ?_
    clear e9
    obtain ⟨hw_12, hw_13⟩ := hw
    refine v_if_ne (tgt := 35) dX6_bounds_25 (by decide) (fun c_10 => ?_) (fun c_11 => ?_)
    · have hw := hw_12 c_10
      refine v_aload_n (q := 0) dX6_bounds_35 rfl rfl ?_
      refine vm_get hb 2 (Nat.le_of_ble_eq_true rfl) q1616 rfl dX6_bounds_36 rfl ?_
      refine v_sipush dX6_bounds_39 sp_248 ?_
      refine v_iload_n (q := 1) dX6_bounds_42 rfl rfl ?_
      obtain ⟨hi_14, hw⟩ := hw
      obtain ⟨ma_15, ema_15⟩ : ∃ z9 : Nat → Nat → Int32, z9 = mup ma 2 ((nI 248)).toNatClampNeg x1 := ⟨_, rfl⟩
      replace hw := hw ma_15 ema_15
      refine v_iast dX6_bounds_43 (mH_ar2 hb) hi_14 ?_
      refine v_heap (h' := mH b mi_3 ma_15 ml) (by rw [ema_15]; exact mH_st2 hb) ?_
      refine v_aload_n (q := 0) dX6_bounds_44 rfl rfl ?_
      refine vm_get hb 2 (Nat.le_of_ble_eq_true rfl) q1616 rfl dX6_bounds_45 rfl ?_
      refine v_sipush dX6_bounds_48 sp_249 ?_
      refine v_iload_n (q := 2) dX6_bounds_51 rfl rfl ?_
      obtain ⟨hi_16, hw⟩ := hw
      obtain ⟨ma_17, ema_17⟩ : ∃ z9 : Nat → Nat → Int32, z9 = mup ma_15 2 ((nI 249)).toNatClampNeg x2 := ⟨_, rfl⟩
      replace hw := hw ma_17 ema_17
      refine v_iast dX6_bounds_52 (mH_ar2 hb) hi_16 ?_
      refine v_heap (h' := mH b mi_3 ma_17 ml) (by rw [ema_17]; exact mH_st2 hb) ?_
      refine v_iconst dX6_bounds_53 ic_0 ?_
      exact v_iret dX6_bounds_54 rfl ⟨_, rfl, _, _, rfl, hw⟩
    · have hw := hw_13 c_11
      refine v_sub [0, 1, 2] rfl ?_
      exact b_X6_bounds_28 hb mi_3 ma hw
theorem met_X6_bounds {post : (Int32) → (Nat → Int32) → (Nat → Nat → Int32) → Prop}   {x1 : Int32} {x2 : Int32} {mi : Nat → Int32} {ma : Nat → Nat → Int32} {ml : Nat → Nat → Int64} (hb : mOK b)  (hw : w_X6_bounds post  x1 x2 mi ma ml) : Mt l E yX6_bounds (ws_ yX6_bounds cX6_bounds 3 (some .int)) r_X6_bounds [va_rf (some (b 0)), .int x1, .int x2] (mH b mi ma ml) (vpi (fun (r : Int32) (h' : AH) => ∃ (mi' : Nat → Int32) (ma' : Nat → Nat → Int32), h' = (mH b mi' ma' ml) ∧ post r mi' ma')) := v_entry (by decide +kernel) (Nat.le_of_ble_eq_true rfl) rfl (fun _ => e_X6_bounds hb hw)
/-! X6_isLine -/
abbrev r_X6_isLine : Room := { frames := 1, cells := 0, slots := 0, locals := 25 }
theorem n_X6_isLine : vdn yX6_isLine 3 := ⟨by decide +kernel, by decide +kernel, by decide +kernel⟩
def w_X6_isLine_147 (post : (Int32) → Prop) (x1 : Int32) (x2 : Int32) (x3 : Int32) (mi : Nat → Int32) (ma : Nat → Nat → Int32) (ml : Nat → Nat → Int64) : Prop :=
 (vp_in (nI 506) 3372 ∧ (w_X6_within (fun (z_2 : Int32) => ((z_2 = nI 0 ∨ z_2 = nI 1) ∧ post z_2)) ((x2).toInt64) (lN 0) ((((ma 2 ((nI 506)).toNatClampNeg) - (nI 1))).toInt64)))
def w_X6_isLine (post : (Int32) → Prop) (x1 : Int32) (x2 : Int32) (x3 : Int32) (mi : Nat → Int32) (ma : Nat → Nat → Int32) (ml : Nat → Nat → Int64) : Prop :=
 ((x1 = (nI 0) → (vp_in (nI 0) 3372 ∧ (w_X6_within (fun (z_9 : Int32) => ((z_9 = 0 → (post (nI 0))) ∧ (¬ z_9 = 0 → (vp_in ((nI 121) + x2) 3372 ∧ (w_X6_within (fun (z_15 : Int32) => ((z_15 = 0 → (post (nI 0))) ∧ (¬ z_15 = 0 → (post (nI 1))))) ((x3).toInt64) (lN 0) ((((ma 2 (((nI 121) + x2)).toNatClampNeg) - (nI 1))).toInt64)))))) ((x2).toInt64) (lN 0) ((((ma 2 ((nI 0)).toNatClampNeg) - (nI 1))).toInt64)))) ∧ (¬ x1 = (nI 0) → ((x1 = (nI 1) → (vp_in (nI 223) 3372 ∧ (w_X6_within (fun (z_25 : Int32) => ((z_25 = 0 → (post (nI 0))) ∧ (¬ z_25 = 0 → (vp_in ((nI 236) + x2) 3372 ∧ (w_X6_within (fun (z_31 : Int32) => ((z_31 = 0 → (post (nI 0))) ∧ (¬ z_31 = 0 → (post (nI 1))))) ((x3).toInt64) (lN 0) ((((ma 2 (((nI 236) + x2)).toNatClampNeg) - (nI 1))).toInt64)))))) ((x2).toInt64) (lN 0) ((((ma 2 ((nI 223)).toNatClampNeg) - (nI 1))).toInt64)))) ∧ (¬ x1 = (nI 1) → ((x1 = (nI 2) → (vp_in (nI 162) 3372 ∧ (w_X6_within (fun (z_41 : Int32) => ((z_41 = nI 0 ∨ z_41 = nI 1) ∧ post z_41)) ((x3).toInt64) (lN 0) ((((ma 2 ((nI 162)).toNatClampNeg) - (nI 1))).toInt64)))) ∧ (¬ x1 = (nI 2) → ((x1 = (nI 3) → (w_X6_isLine_147 post x1 x2 x3 mi ma ml)) ∧ (¬ x1 = (nI 3) → ((x1 = (nI 4) → (w_X6_isLine_147 post x1 x2 x3 mi ma ml)) ∧ (¬ x1 = (nI 4) → (post (nI 0))))))))))))
theorem b_X6_isLine_147 {post : (Int32) → Prop}   {x1 : Int32} {x2 : Int32} {x3 : Int32} {mi : Nat → Int32} {ma : Nat → Nat → Int32} {ml : Nat → Nat → Int64}  (hb : mOK b)    (hw : w_X6_isLine_147 post x1 x2 x3 mi ma ml) : VV l E X cX6_isLine RX6 "isLine" 4 r_X6_isLine (some .boolean) (vpi (fun (r : Int32) (h' : AH) => h' = (mH b mi ma ml) ∧ post r)) (mH b mi ma ml) 0 0 147 [(0, va_rf (some (b 0))), (1, .int x1), (2, .int x2), (3, .int x3)] [] := by
  refine v_iload_n (q := 2) dX6_isLine_147 rfl rfl ?_
  refine v_i2l dX6_isLine_148 ?_
  refine v_lconst (v := lN 0) dX6_isLine_149 rfl ?_
  refine v_aload_n (q := 0) dX6_isLine_150 rfl rfl ?_
  refine vm_get hb 2 (Nat.le_of_ble_eq_true rfl) q1616 rfl dX6_isLine_151 rfl ?_
  refine v_sipush dX6_isLine_154 sp_506 ?_
  obtain ⟨hi_1, hw⟩ := hw
  refine v_iald dX6_isLine_157 (mH_ar2 hb) hi_1 ?_
  refine v_iconst dX6_isLine_158 ic_1 ?_
  refine v_isub dX6_isLine_159 ?_
  refine v_i2l dX6_isLine_160 ?_
  refine v_callS q1734 q1735 q113 q1736 n_X6_within ⟨Nat.le_of_ble_eq_true rfl, Nat.le_of_ble_eq_true rfl⟩ [.long ((x2).toInt64), .long (lN 0), .long ((((ma 2 ((nI 506)).toNatClampNeg) - (nI 1))).toInt64)] [] (met_X6_within hw) rfl (Nat.zero_le _) ⟨Nat.le_refl _, Nat.le_refl _⟩ dX6_isLine_161 rfl (v_ki (fun z_2 h1 hv => ?_))
  clear hw
  obtain ⟨e9, hw⟩ := hv
  refine v_heap e9 ?_
  clear e9
  obtain ⟨hn_3, hw⟩ := hw
  exact v_zret dX6_isLine_164 rfl (v_z1 hn_3).1 ⟨_, rfl, rfl, hw⟩
theorem e_X6_isLine {post : (Int32) → Prop}   {x1 : Int32} {x2 : Int32} {x3 : Int32} {mi : Nat → Int32} {ma : Nat → Nat → Int32} {ml : Nat → Nat → Int64} (hb : mOK b)  (hw : w_X6_isLine post  x1 x2 x3 mi ma ml) : VV l E X cX6_isLine RX6 "isLine" 4 r_X6_isLine (some .boolean) (vpi (fun (r : Int32) (h' : AH) => h' = (mH b mi ma ml) ∧ post r)) (mH b mi ma ml) 0 0 0 [(0, va_rf (some (b 0))), (1, .int x1), (2, .int x2), (3, .int x3)] [] := by
  refine v_iload_n (q := 1) dX6_isLine_0 rfl rfl ?_
  obtain ⟨hw_6, hw_7⟩ := hw
  by_cases c_4 : x1 = (nI 0)
  · have hw := hw_6 c_4
    refine v_tswIn (off := 35) (tgt := 36) dX6_isLine_1 (by rw [c_4]; decide) (by rw [c_4]; decide) (by rw [c_4]; rfl) (by decide) ?_
    refine v_iload_n (q := 2) dX6_isLine_36 rfl rfl ?_
    refine v_i2l dX6_isLine_37 ?_
    refine v_lconst (v := lN 0) dX6_isLine_38 rfl ?_
    refine v_aload_n (q := 0) dX6_isLine_39 rfl rfl ?_
    refine vm_get hb 2 (Nat.le_of_ble_eq_true rfl) q1616 rfl dX6_isLine_40 rfl ?_
    refine v_iconst dX6_isLine_43 ic_0 ?_
    obtain ⟨hi_8, hw⟩ := hw
    refine v_iald dX6_isLine_44 (mH_ar2 hb) hi_8 ?_
    refine v_iconst dX6_isLine_45 ic_1 ?_
    refine v_isub dX6_isLine_46 ?_
    refine v_i2l dX6_isLine_47 ?_
    refine v_callS q1734 q1735 q113 q1736 n_X6_within ⟨Nat.le_of_ble_eq_true rfl, Nat.le_of_ble_eq_true rfl⟩ [.long ((x2).toInt64), .long (lN 0), .long ((((ma 2 ((nI 0)).toNatClampNeg) - (nI 1))).toInt64)] [] (met_X6_within hw) rfl (Nat.zero_le _) ⟨Nat.le_refl _, Nat.le_refl _⟩ dX6_isLine_48 rfl (v_ki (fun z_9 h1 hv => ?_))
    clear hw
    obtain ⟨e9, hw⟩ := hv
    refine v_heap e9 ?_
    clear e9
    obtain ⟨hw_12, hw_13⟩ := hw
    refine v_if_eq (tgt := 79) dX6_isLine_51 (by decide) (fun c_10 => ?_) (fun c_11 => ?_)
    · have hw := hw_12 c_10
      refine v_iconst dX6_isLine_79 ic_0 ?_
      exact v_zret dX6_isLine_80 rfl rfl ⟨_, rfl, rfl, hw⟩
    · have hw := hw_13 c_11
      refine v_iload_n (q := 3) dX6_isLine_54 rfl rfl ?_
      refine v_i2l dX6_isLine_55 ?_
      refine v_lconst (v := lN 0) dX6_isLine_56 rfl ?_
      refine v_aload_n (q := 0) dX6_isLine_57 rfl rfl ?_
      refine vm_get hb 2 (Nat.le_of_ble_eq_true rfl) q1616 rfl dX6_isLine_58 rfl ?_
      refine v_bipush dX6_isLine_61 bp_121 ?_
      refine v_iload_n (q := 2) dX6_isLine_63 rfl rfl ?_
      refine v_iadd dX6_isLine_64 ?_
      obtain ⟨hi_14, hw⟩ := hw
      refine v_iald dX6_isLine_65 (mH_ar2 hb) hi_14 ?_
      refine v_iconst dX6_isLine_66 ic_1 ?_
      refine v_isub dX6_isLine_67 ?_
      refine v_i2l dX6_isLine_68 ?_
      refine v_callS q1734 q1735 q113 q1736 n_X6_within ⟨Nat.le_of_ble_eq_true rfl, Nat.le_of_ble_eq_true rfl⟩ [.long ((x3).toInt64), .long (lN 0), .long ((((ma 2 (((nI 121) + x2)).toNatClampNeg) - (nI 1))).toInt64)] [] (met_X6_within hw) rfl (Nat.zero_le _) ⟨Nat.le_refl _, Nat.le_refl _⟩ dX6_isLine_69 rfl (v_ki (fun z_15 h1 hv => ?_))
      clear hw
      obtain ⟨e9, hw⟩ := hv
      refine v_heap e9 ?_
      clear e9
      obtain ⟨hw_18, hw_19⟩ := hw
      refine v_if_eq (tgt := 79) dX6_isLine_72 (by decide) (fun c_16 => ?_) (fun c_17 => ?_)
      · have hw := hw_18 c_16
        refine v_iconst dX6_isLine_79 ic_0 ?_
        exact v_zret dX6_isLine_80 rfl rfl ⟨_, rfl, rfl, hw⟩
      · have hw := hw_19 c_17
        refine v_iconst dX6_isLine_75 ic_1 ?_
        refine v_goto (tgt := 80) dX6_isLine_76 (by decide) ?_
        exact v_zret dX6_isLine_80 rfl rfl ⟨_, rfl, rfl, hw⟩
  have hw := hw_7 c_4
  obtain ⟨hw_22, hw_23⟩ := hw
  by_cases c_20 : x1 = (nI 1)
  · have hw := hw_22 c_20
    refine v_tswIn (off := 80) (tgt := 81) dX6_isLine_1 (by rw [c_20]; decide) (by rw [c_20]; decide) (by rw [c_20]; rfl) (by decide) ?_
    refine v_iload_n (q := 2) dX6_isLine_81 rfl rfl ?_
    refine v_i2l dX6_isLine_82 ?_
    refine v_lconst (v := lN 0) dX6_isLine_83 rfl ?_
    refine v_aload_n (q := 0) dX6_isLine_84 rfl rfl ?_
    refine vm_get hb 2 (Nat.le_of_ble_eq_true rfl) q1616 rfl dX6_isLine_85 rfl ?_
    refine v_sipush dX6_isLine_88 sp_223 ?_
    obtain ⟨hi_24, hw⟩ := hw
    refine v_iald dX6_isLine_91 (mH_ar2 hb) hi_24 ?_
    refine v_iconst dX6_isLine_92 ic_1 ?_
    refine v_isub dX6_isLine_93 ?_
    refine v_i2l dX6_isLine_94 ?_
    refine v_callS q1734 q1735 q113 q1736 n_X6_within ⟨Nat.le_of_ble_eq_true rfl, Nat.le_of_ble_eq_true rfl⟩ [.long ((x2).toInt64), .long (lN 0), .long ((((ma 2 ((nI 223)).toNatClampNeg) - (nI 1))).toInt64)] [] (met_X6_within hw) rfl (Nat.zero_le _) ⟨Nat.le_refl _, Nat.le_refl _⟩ dX6_isLine_95 rfl (v_ki (fun z_25 h1 hv => ?_))
    clear hw
    obtain ⟨e9, hw⟩ := hv
    refine v_heap e9 ?_
    clear e9
    obtain ⟨hw_28, hw_29⟩ := hw
    refine v_if_eq (tgt := 127) dX6_isLine_98 (by decide) (fun c_26 => ?_) (fun c_27 => ?_)
    · have hw := hw_28 c_26
      refine v_iconst dX6_isLine_127 ic_0 ?_
      exact v_zret dX6_isLine_128 rfl rfl ⟨_, rfl, rfl, hw⟩
    · have hw := hw_29 c_27
      refine v_iload_n (q := 3) dX6_isLine_101 rfl rfl ?_
      refine v_i2l dX6_isLine_102 ?_
      refine v_lconst (v := lN 0) dX6_isLine_103 rfl ?_
      refine v_aload_n (q := 0) dX6_isLine_104 rfl rfl ?_
      refine vm_get hb 2 (Nat.le_of_ble_eq_true rfl) q1616 rfl dX6_isLine_105 rfl ?_
      refine v_sipush dX6_isLine_108 sp_236 ?_
      refine v_iload_n (q := 2) dX6_isLine_111 rfl rfl ?_
      refine v_iadd dX6_isLine_112 ?_
      obtain ⟨hi_30, hw⟩ := hw
      refine v_iald dX6_isLine_113 (mH_ar2 hb) hi_30 ?_
      refine v_iconst dX6_isLine_114 ic_1 ?_
      refine v_isub dX6_isLine_115 ?_
      refine v_i2l dX6_isLine_116 ?_
      refine v_callS q1734 q1735 q113 q1736 n_X6_within ⟨Nat.le_of_ble_eq_true rfl, Nat.le_of_ble_eq_true rfl⟩ [.long ((x3).toInt64), .long (lN 0), .long ((((ma 2 (((nI 236) + x2)).toNatClampNeg) - (nI 1))).toInt64)] [] (met_X6_within hw) rfl (Nat.zero_le _) ⟨Nat.le_refl _, Nat.le_refl _⟩ dX6_isLine_117 rfl (v_ki (fun z_31 h1 hv => ?_))
      clear hw
      obtain ⟨e9, hw⟩ := hv
      refine v_heap e9 ?_
      clear e9
      obtain ⟨hw_34, hw_35⟩ := hw
      refine v_if_eq (tgt := 127) dX6_isLine_120 (by decide) (fun c_32 => ?_) (fun c_33 => ?_)
      · have hw := hw_34 c_32
        refine v_iconst dX6_isLine_127 ic_0 ?_
        exact v_zret dX6_isLine_128 rfl rfl ⟨_, rfl, rfl, hw⟩
      · have hw := hw_35 c_33
        refine v_iconst dX6_isLine_123 ic_1 ?_
        refine v_goto (tgt := 128) dX6_isLine_124 (by decide) ?_
        exact v_zret dX6_isLine_128 rfl rfl ⟨_, rfl, rfl, hw⟩
  have hw := hw_23 c_20
  obtain ⟨hw_38, hw_39⟩ := hw
  by_cases c_36 : x1 = (nI 2)
  · have hw := hw_38 c_36
    refine v_tswIn (off := 128) (tgt := 129) dX6_isLine_1 (by rw [c_36]; decide) (by rw [c_36]; decide) (by rw [c_36]; rfl) (by decide) ?_
    refine v_iload_n (q := 3) dX6_isLine_129 rfl rfl ?_
    refine v_i2l dX6_isLine_130 ?_
    refine v_lconst (v := lN 0) dX6_isLine_131 rfl ?_
    refine v_aload_n (q := 0) dX6_isLine_132 rfl rfl ?_
    refine vm_get hb 2 (Nat.le_of_ble_eq_true rfl) q1616 rfl dX6_isLine_133 rfl ?_
    refine v_sipush dX6_isLine_136 sp_162 ?_
    obtain ⟨hi_40, hw⟩ := hw
    refine v_iald dX6_isLine_139 (mH_ar2 hb) hi_40 ?_
    refine v_iconst dX6_isLine_140 ic_1 ?_
    refine v_isub dX6_isLine_141 ?_
    refine v_i2l dX6_isLine_142 ?_
    refine v_callS q1734 q1735 q113 q1736 n_X6_within ⟨Nat.le_of_ble_eq_true rfl, Nat.le_of_ble_eq_true rfl⟩ [.long ((x3).toInt64), .long (lN 0), .long ((((ma 2 ((nI 162)).toNatClampNeg) - (nI 1))).toInt64)] [] (met_X6_within hw) rfl (Nat.zero_le _) ⟨Nat.le_refl _, Nat.le_refl _⟩ dX6_isLine_143 rfl (v_ki (fun z_41 h1 hv => ?_))
    clear hw
    obtain ⟨e9, hw⟩ := hv
    refine v_heap e9 ?_
    clear e9
    obtain ⟨hn_42, hw⟩ := hw
    exact v_zret dX6_isLine_146 rfl (v_z1 hn_42).1 ⟨_, rfl, rfl, hw⟩
  have hw := hw_39 c_36
  obtain ⟨hw_45, hw_46⟩ := hw
  by_cases c_43 : x1 = (nI 3)
  · have hw := hw_45 c_43
    refine v_tswIn (off := 146) (tgt := 147) dX6_isLine_1 (by rw [c_43]; decide) (by rw [c_43]; decide) (by rw [c_43]; rfl) (by decide) ?_
    refine v_sub [0, 1, 2, 3] rfl ?_
    exact b_X6_isLine_147 hb  hw
  have hw := hw_46 c_43
  obtain ⟨hw_49, hw_50⟩ := hw
  by_cases c_47 : x1 = (nI 4)
  · have hw := hw_49 c_47
    refine v_tswIn (off := 146) (tgt := 147) dX6_isLine_1 (by rw [c_47]; decide) (by rw [c_47]; decide) (by rw [c_47]; rfl) (by decide) ?_
    refine v_sub [0, 1, 2, 3] rfl ?_
    exact b_X6_isLine_147 hb  hw
  have hw := hw_50 c_47
  refine v_tswOut (tgt := 165) dX6_isLine_1 (by have := v_swn 0 c_4 (by decide); have := v_swn 1 c_20 (by decide); have := v_swn 2 c_36 (by decide); have := v_swn 3 c_43 (by decide); have := v_swn 4 c_47 (by decide); omega) (by decide) ?_
  refine v_iconst dX6_isLine_165 ic_0 ?_
  exact v_zret dX6_isLine_166 rfl rfl ⟨_, rfl, rfl, hw⟩
theorem met_X6_isLine {post : (Int32) → Prop}   {x1 : Int32} {x2 : Int32} {x3 : Int32} {mi : Nat → Int32} {ma : Nat → Nat → Int32} {ml : Nat → Nat → Int64} (hb : mOK b)  (hw : w_X6_isLine post  x1 x2 x3 mi ma ml) : Mt l E yX6_isLine (ws_ yX6_isLine cX6_isLine 4 (some .boolean)) r_X6_isLine [va_rf (some (b 0)), .int x1, .int x2, .int x3] (mH b mi ma ml) (vpi (fun (r : Int32) (h' : AH) => h' = (mH b mi ma ml) ∧ post r)) := v_entry (by decide +kernel) (Nat.le_of_ble_eq_true rfl) rfl (fun _ => e_X6_isLine hb hw)
/-! X6_words -/
abbrev r_X6_words : Room := { frames := 2, cells := 0, slots := 0, locals := 48 }
theorem n_X6_words : vdn yX6_words 3 := ⟨by decide +kernel, by decide +kernel, by decide +kernel⟩
def w_X6_words (post : (Int64) → (Nat → Int32) → (Nat → Nat → Int32) → Prop) (x1 : Int32) (x2 : Int32) (x3 : Int32) (mi : Nat → Int32) (ma : Nat → Nat → Int32) (ml : Nat → Nat → Int64) : Prop :=
 (∀ mi_1 : Nat → Int32, mi_1 = upd mi 0 (nI 0) → (w_X6_isLine (fun (z_2 : Int32) => ((¬ z_2 = 0 → ((x1 = (nI 0) → (vp_in (((nI 12) * x2) + x3) 2352 ∧ (post (ml 3 ((((nI 12) * x2) + x3)).toNatClampNeg) mi_1 ma))) ∧ (¬ x1 = (nI 0) → ((x1 = (nI 1) → (vp_in (((nI 540) + ((nI 12) * x2)) + x3) 2352 ∧ (post (ml 3 ((((nI 540) + ((nI 12) * x2)) + x3)).toNatClampNeg) mi_1 ma))) ∧ (¬ x1 = (nI 1) → ((x1 = (nI 2) → (vp_in ((nI 480) + x3) 2352 ∧ (post (ml 3 (((nI 480) + x3)).toNatClampNeg) mi_1 ma))) ∧ (¬ x1 = (nI 2) → ((x1 = (nI 3) → (vp_in ((nI 684) + x2) 2352 ∧ (post (ml 3 (((nI 684) + x2)).toNatClampNeg) mi_1 ma))) ∧ (¬ x1 = (nI 3) → (vp_in ((nI 704) + x2) 2352 ∧ (post (ml 3 (((nI 704) + x2)).toNatClampNeg) mi_1 ma))))))))))) ∧ (z_2 = 0 → (w_X6_no (fun (z_28 : Int32) (ma_29 : Nat → Nat → Int32) => (post ((z_28).toInt64) mi_1 ma_29)) (-2) mi_1 ma ml)))) x1 x2 x3 mi_1 ma ml))
theorem e_X6_words {post : (Int64) → (Nat → Int32) → (Nat → Nat → Int32) → Prop}   {x1 : Int32} {x2 : Int32} {x3 : Int32} {mi : Nat → Int32} {ma : Nat → Nat → Int32} {ml : Nat → Nat → Int64} (hb : mOK b)  (hw : w_X6_words post  x1 x2 x3 mi ma ml) : VV l E X cX6_words RX6 "words" 4 r_X6_words (some .long) (vpl (fun (r : Int64) (h' : AH) => ∃ (mi' : Nat → Int32) (ma' : Nat → Nat → Int32), h' = (mH b mi' ma' ml) ∧ post r mi' ma')) (mH b mi ma ml) 0 0 0 [(0, va_rf (some (b 0))), (1, .int x1), (2, .int x2), (3, .int x3)] [] := by
  refine v_aload_n (q := 0) dX6_words_0 rfl rfl ?_
  refine v_iconst dX6_words_1 ic_0 ?_
  obtain ⟨mi_1, emi_1⟩ : ∃ z9 : Nat → Int32, z9 = upd mi 0 (nI 0) := ⟨_, rfl⟩
  replace hw := hw mi_1 emi_1
  refine vm_put hb 0 (Nat.le_of_ble_eq_true rfl) q1614 rfl rfl rfl dX6_words_2 emi_1 rfl ?_
  refine v_aload_n (q := 0) dX6_words_5 rfl rfl ?_
  refine v_iload_n (q := 1) dX6_words_6 rfl rfl ?_
  refine v_iload_n (q := 2) dX6_words_7 rfl rfl ?_
  refine v_iload_n (q := 3) dX6_words_8 rfl rfl ?_
  refine v_callV q1775 q1777 qs55 q113 q1778 (ci := 7) rfl (mH_obj hb) n_X6_isLine ⟨Nat.le_of_ble_eq_true rfl, Nat.le_of_ble_eq_true rfl⟩ [.int x1, .int x2, .int x3] [] (met_X6_isLine hb hw) rfl (Nat.zero_le _) ⟨Nat.le_refl _, Nat.le_refl _⟩ dX6_words_9 rfl (v_ki (fun z_2 h1 hv => ?_))
  clear hw
  obtain ⟨e9, hw⟩ := hv
  refine v_heap e9 ?_
  clear e9
  obtain ⟨hw_5, hw_6⟩ := hw
  refine v_if_ne (tgt := 23) dX6_words_12 (by decide) (fun c_3 => ?_) (fun c_4 => ?_)
  · have hw := hw_5 c_3
    refine v_iload_n (q := 1) dX6_words_23 rfl rfl ?_
    obtain ⟨hw_9, hw_10⟩ := hw
    by_cases c_7 : x1 = (nI 0)
    · have hw := hw_9 c_7
      refine v_tswIn (off := 32) (tgt := 56) dX6_words_24 (by rw [c_7]; decide) (by rw [c_7]; decide) (by rw [c_7]; rfl) (by decide) ?_
      refine v_aload_n (q := 0) dX6_words_56 rfl rfl ?_
      refine vm_get hb 3 (Nat.le_of_ble_eq_true rfl) q1617 rfl dX6_words_57 rfl ?_
      refine v_bipush dX6_words_60 bp_12 ?_
      refine v_iload_n (q := 2) dX6_words_62 rfl rfl ?_
      refine v_imul dX6_words_63 ?_
      refine v_iload_n (q := 3) dX6_words_64 rfl rfl ?_
      refine v_iadd dX6_words_65 ?_
      obtain ⟨hi_11, hw⟩ := hw
      refine v_lald dX6_words_66 (mH_ar3 hb) hi_11 ?_
      exact v_lret dX6_words_67 rfl ⟨_, rfl, _, _, rfl, hw⟩
    have hw := hw_10 c_7
    obtain ⟨hw_14, hw_15⟩ := hw
    by_cases c_12 : x1 = (nI 1)
    · have hw := hw_14 c_12
      refine v_tswIn (off := 44) (tgt := 68) dX6_words_24 (by rw [c_12]; decide) (by rw [c_12]; decide) (by rw [c_12]; rfl) (by decide) ?_
      refine v_aload_n (q := 0) dX6_words_68 rfl rfl ?_
      refine vm_get hb 3 (Nat.le_of_ble_eq_true rfl) q1617 rfl dX6_words_69 rfl ?_
      refine v_sipush dX6_words_72 sp_540 ?_
      refine v_bipush dX6_words_75 bp_12 ?_
      refine v_iload_n (q := 2) dX6_words_77 rfl rfl ?_
      refine v_imul dX6_words_78 ?_
      refine v_iadd dX6_words_79 ?_
      refine v_iload_n (q := 3) dX6_words_80 rfl rfl ?_
      refine v_iadd dX6_words_81 ?_
      obtain ⟨hi_16, hw⟩ := hw
      refine v_lald dX6_words_82 (mH_ar3 hb) hi_16 ?_
      exact v_lret dX6_words_83 rfl ⟨_, rfl, _, _, rfl, hw⟩
    have hw := hw_15 c_12
    obtain ⟨hw_19, hw_20⟩ := hw
    by_cases c_17 : x1 = (nI 2)
    · have hw := hw_19 c_17
      refine v_tswIn (off := 60) (tgt := 84) dX6_words_24 (by rw [c_17]; decide) (by rw [c_17]; decide) (by rw [c_17]; rfl) (by decide) ?_
      refine v_aload_n (q := 0) dX6_words_84 rfl rfl ?_
      refine vm_get hb 3 (Nat.le_of_ble_eq_true rfl) q1617 rfl dX6_words_85 rfl ?_
      refine v_sipush dX6_words_88 sp_480 ?_
      refine v_iload_n (q := 3) dX6_words_91 rfl rfl ?_
      refine v_iadd dX6_words_92 ?_
      obtain ⟨hi_21, hw⟩ := hw
      refine v_lald dX6_words_93 (mH_ar3 hb) hi_21 ?_
      exact v_lret dX6_words_94 rfl ⟨_, rfl, _, _, rfl, hw⟩
    have hw := hw_20 c_17
    obtain ⟨hw_24, hw_25⟩ := hw
    by_cases c_22 : x1 = (nI 3)
    · have hw := hw_24 c_22
      refine v_tswIn (off := 71) (tgt := 95) dX6_words_24 (by rw [c_22]; decide) (by rw [c_22]; decide) (by rw [c_22]; rfl) (by decide) ?_
      refine v_aload_n (q := 0) dX6_words_95 rfl rfl ?_
      refine vm_get hb 3 (Nat.le_of_ble_eq_true rfl) q1617 rfl dX6_words_96 rfl ?_
      refine v_sipush dX6_words_99 sp_684 ?_
      refine v_iload_n (q := 2) dX6_words_102 rfl rfl ?_
      refine v_iadd dX6_words_103 ?_
      obtain ⟨hi_26, hw⟩ := hw
      refine v_lald dX6_words_104 (mH_ar3 hb) hi_26 ?_
      exact v_lret dX6_words_105 rfl ⟨_, rfl, _, _, rfl, hw⟩
    have hw := hw_25 c_22
    refine v_tswOut (tgt := 106) dX6_words_24 (by have := v_swn 0 c_7 (by decide); have := v_swn 1 c_12 (by decide); have := v_swn 2 c_17 (by decide); have := v_swn 3 c_22 (by decide); omega) (by decide) ?_
    refine v_aload_n (q := 0) dX6_words_106 rfl rfl ?_
    refine vm_get hb 3 (Nat.le_of_ble_eq_true rfl) q1617 rfl dX6_words_107 rfl ?_
    refine v_sipush dX6_words_110 sp_704 ?_
    refine v_iload_n (q := 2) dX6_words_113 rfl rfl ?_
    refine v_iadd dX6_words_114 ?_
    obtain ⟨hi_27, hw⟩ := hw
    refine v_lald dX6_words_115 (mH_ar3 hb) hi_27 ?_
    exact v_lret dX6_words_116 rfl ⟨_, rfl, _, _, rfl, hw⟩
  · have hw := hw_6 c_4
    refine v_aload_n (q := 0) dX6_words_15 rfl rfl ?_
    refine v_bipush dX6_words_16 bp_m2 ?_
    refine v_callV q1737 q1739 qs53 q113 q1740 (ci := 7) rfl (mH_obj hb) n_X6_no ⟨Nat.le_of_ble_eq_true rfl, Nat.le_of_ble_eq_true rfl⟩ [.int (-2)] [] (met_X6_no hb hw) rfl (Nat.zero_le _) ⟨Nat.le_refl _, Nat.le_refl _⟩ dX6_words_18 rfl (v_ki (fun z_28 h1 hv => ?_))
    clear hw
    obtain ⟨ma_29, rfl, hw⟩ := hv
    refine v_i2l dX6_words_21 ?_
    exact v_lret dX6_words_22 rfl ⟨_, rfl, _, _, rfl, hw⟩
theorem met_X6_words {post : (Int64) → (Nat → Int32) → (Nat → Nat → Int32) → Prop}   {x1 : Int32} {x2 : Int32} {x3 : Int32} {mi : Nat → Int32} {ma : Nat → Nat → Int32} {ml : Nat → Nat → Int64} (hb : mOK b)  (hw : w_X6_words post  x1 x2 x3 mi ma ml) : Mt l E yX6_words (ws_ yX6_words cX6_words 4 (some .long)) r_X6_words [va_rf (some (b 0)), .int x1, .int x2, .int x3] (mH b mi ma ml) (vpl (fun (r : Int64) (h' : AH) => ∃ (mi' : Nat → Int32) (ma' : Nat → Nat → Int32), h' = (mH b mi' ma' ml) ∧ post r mi' ma')) := v_entry (by decide +kernel) (Nat.le_of_ble_eq_true rfl) rfl (fun _ => e_X6_words hb hw)
/-! X6_likeOf -/
abbrev r_X6_likeOf : Room := { frames := 2, cells := 0, slots := 0, locals := 44 }
theorem n_X6_likeOf : vdn yX6_likeOf 2 := ⟨by decide +kernel, by decide +kernel, by decide +kernel⟩
def w_X6_likeOf_193 (post : (Int32) → (Nat → Nat → Int32) → Prop) (k27 : (Int32) → (Int32) → (Int32) → (Nat → Nat → Int32) → Prop) (k37 : (Int32) → (Int32) → (Int32) → (Int32) → (Nat → Nat → Int32) → Prop) (x1 : Int64) (x3 : Int64) (mi : Nat → Int32) (ml : Nat → Nat → Int64) (x5 : Int32) (x6 : Int32) (x7 : Int32) (x8 : Int32) (x9 : Int32) (ma : Nat → Nat → Int32) : Prop :=
 (vp_in (((nI 9) * x7) + x8) 81 ∧ ∀ ma_2 : Nat → Nat → Int32, ma_2 = mup ma 5 ((((nI 9) * x7) + x8)).toNatClampNeg x9 → (∀ z_3 : Int32, z_3 = x8 + (nI 1) → (k37 x5 x6 x7 z_3 ma_2)))
def w_X6_likeOf_125 (post : (Int32) → (Nat → Nat → Int32) → Prop) (k27 : (Int32) → (Int32) → (Int32) → (Nat → Nat → Int32) → Prop) (k37 : (Int32) → (Int32) → (Int32) → (Int32) → (Nat → Nat → Int32) → Prop) (x1 : Int64) (x3 : Int64) (mi : Nat → Int32) (ml : Nat → Nat → Int64) (x5 : Int32) (x6 : Int32) (x7 : Int32) (x8 : Int32) (s0 : Int32) (ma : Nat → Nat → Int32) : Prop :=
 (w_X6_wordAt (fun (z_4 : Int32) => (w_X6_wordAt (fun (z_5 : Int32) => ((¬ z_4 = z_5 → (w_X6_likeOf_193 post k27 k37 x1 x3 mi ml x5 x6 x7 x8 s0 ma)) ∧ (z_4 = z_5 → (vp_in (((((nI 9) * x7) - (nI 9)) + x8) - (nI 1)) 81 ∧ ((((ma 5 ((((((nI 9) * x7) - (nI 9)) + x8) - (nI 1))).toNatClampNeg) + (nI 1)) ≤ s0 → (w_X6_likeOf_193 post k27 k37 x1 x3 mi ml x5 x6 x7 x8 s0 ma)) ∧ (¬ ((ma 5 ((((((nI 9) * x7) - (nI 9)) + x8) - (nI 1))).toNatClampNeg) + (nI 1)) ≤ s0 → (vp_in (((((nI 9) * x7) - (nI 9)) + x8) - (nI 1)) 81 ∧ (∀ z_16 : Int32, z_16 = ((ma 5 ((((((nI 9) * x7) - (nI 9)) + x8) - (nI 1))).toNatClampNeg) + (nI 1)) → (w_X6_likeOf_193 post k27 k37 x1 x3 mi ml x5 x6 x7 x8 z_16 ma))))))))) x3 (x8 - (nI 1)))) x1 (x7 - (nI 1)))
def w_X6_likeOf_37 (post : (Int32) → (Nat → Nat → Int32) → Prop) (k27 : (Int32) → (Int32) → (Int32) → (Nat → Nat → Int32) → Prop) (x1 : Int64) (x3 : Int64) (mi : Nat → Int32) (ml : Nat → Nat → Int64) : Nat → (Int32) → (Int32) → (Int32) → (Int32) → (Nat → Nat → Int32) → Prop
 | 0, _, _, _, _, _ => False
 | n0 + 1, x5, x6, x7, x8, ma =>
 ((x6 < x8 → (∀ z_21 : Int32, z_21 = x7 + (nI 1) → (k27 x5 x6 z_21 ma))) ∧ (¬ x6 < x8 → ((x7 ≤ 0 → (w_X6_likeOf_193 post k27 (fun (q0 : Int32) (q1 : Int32) (q2 : Int32) (q3 : Int32) (q4 : Nat → Nat → Int32) => w_X6_likeOf_37 post k27 x1 x3 mi ml n0 q0 q1 q2 q3 q4) x1 x3 mi ml x5 x6 x7 x8 (nI 0) ma)) ∧ (¬ x7 ≤ 0 → ((x8 ≤ 0 → (w_X6_likeOf_193 post k27 (fun (q0 : Int32) (q1 : Int32) (q2 : Int32) (q3 : Int32) (q4 : Nat → Nat → Int32) => w_X6_likeOf_37 post k27 x1 x3 mi ml n0 q0 q1 q2 q3 q4) x1 x3 mi ml x5 x6 x7 x8 (nI 0) ma)) ∧ (¬ x8 ≤ 0 → (vp_in ((((nI 9) * x7) - (nI 9)) + x8) 81 ∧ (vp_in ((((nI 9) * x7) + x8) - (nI 1)) 81 ∧ (((ma 5 (((((nI 9) * x7) - (nI 9)) + x8)).toNatClampNeg) ≤ (ma 5 (((((nI 9) * x7) + x8) - (nI 1))).toNatClampNeg) → (vp_in ((((nI 9) * x7) + x8) - (nI 1)) 81 ∧ (w_X6_likeOf_125 post k27 (fun (q0 : Int32) (q1 : Int32) (q2 : Int32) (q3 : Int32) (q4 : Nat → Nat → Int32) => w_X6_likeOf_37 post k27 x1 x3 mi ml n0 q0 q1 q2 q3 q4) x1 x3 mi ml x5 x6 x7 x8 (ma 5 (((((nI 9) * x7) + x8) - (nI 1))).toNatClampNeg) ma))) ∧ (¬ (ma 5 (((((nI 9) * x7) - (nI 9)) + x8)).toNatClampNeg) ≤ (ma 5 (((((nI 9) * x7) + x8) - (nI 1))).toNatClampNeg) → (vp_in ((((nI 9) * x7) - (nI 9)) + x8) 81 ∧ (w_X6_likeOf_125 post k27 (fun (q0 : Int32) (q1 : Int32) (q2 : Int32) (q3 : Int32) (q4 : Nat → Nat → Int32) => w_X6_likeOf_37 post k27 x1 x3 mi ml n0 q0 q1 q2 q3 q4) x1 x3 mi ml x5 x6 x7 x8 (ma 5 (((((nI 9) * x7) - (nI 9)) + x8)).toNatClampNeg) ma))))))))))))
def w_X6_likeOf_250 (post : (Int32) → (Nat → Nat → Int32) → Prop) (x1 : Int64) (x3 : Int64) (mi : Nat → Int32) (ml : Nat → Nat → Int64) (s0 : Int32) (s1 : Int32) (ma : Nat → Nat → Int32) : Prop :=
 (¬ s0 = 0 ∧ (post (s1 / s0) ma))
def w_X6_likeOf_27 (post : (Int32) → (Nat → Nat → Int32) → Prop) (x1 : Int64) (x3 : Int64) (mi : Nat → Int32) (ml : Nat → Nat → Int64) : Nat → (Int32) → (Int32) → (Int32) → (Nat → Nat → Int32) → Prop
 | 0, _, _, _, _ => False
 | n0 + 1, x5, x6, x7, ma =>
 ((x5 < x7 → (vp_in (((nI 9) * x5) + x6) 81 ∧ ((x5 ≤ x6 → (w_X6_likeOf_250 post x1 x3 mi ml x6 ((nI 100) * (ma 5 ((((nI 9) * x5) + x6)).toNatClampNeg)) ma)) ∧ (¬ x5 ≤ x6 → (w_X6_likeOf_250 post x1 x3 mi ml x5 ((nI 100) * (ma 5 ((((nI 9) * x5) + x6)).toNatClampNeg)) ma))))) ∧ (¬ x5 < x7 → (∃ n1 : Nat, (w_X6_likeOf_37 post (fun (q0 : Int32) (q1 : Int32) (q2 : Int32) (q3 : Nat → Nat → Int32) => w_X6_likeOf_27 post x1 x3 mi ml n0 q0 q1 q2 q3) x1 x3 mi ml n1 x5 x6 x7 (nI 0) ma))))
def w_X6_likeOf (post : (Int32) → (Nat → Nat → Int32) → Prop) (x1 : Int64) (x3 : Int64) (mi : Nat → Int32) (ma : Nat → Nat → Int32) (ml : Nat → Nat → Int64) : Prop :=
 (w_X6_lengthOf (fun (z_49 : Int32) => (w_X6_lengthOf (fun (z_50 : Int32) => ((z_49 = 0 → (post (nI 0) ma)) ∧ (¬ z_49 = 0 → ((¬ z_50 = 0 → (∃ n1 : Nat, (w_X6_likeOf_27 post x1 x3 mi ml n1 z_49 z_50 (nI 0) ma))) ∧ (z_50 = 0 → (post (nI 0) ma)))))) x3)) x1)
theorem b_X6_likeOf_193 {post : (Int32) → (Nat → Nat → Int32) → Prop}   {x1 : Int64} {x3 : Int64} {mi : Nat → Int32} {ml : Nat → Nat → Int64} {k27 : (Int32) → (Int32) → (Int32) → (Nat → Nat → Int32) → Prop} {k37 : (Int32) → (Int32) → (Int32) → (Int32) → (Nat → Nat → Int32) → Prop} (hb : mOK b)  (hk27 : ∀ (x5 : Int32) (x6 : Int32) (x7 : Int32) (ma : Nat → Nat → Int32), k27 x5 x6 x7 ma → VV l E X cX6_likeOf RX6 "likeOf" 10 r_X6_likeOf (some .int) (vpi (fun (r : Int32) (h' : AH) => ∃ (ma' : Nat → Nat → Int32), h' = (mH b mi ma' ml) ∧ post r ma')) (mH b mi ma ml) 0 0 27 [(0, va_rf (some (b 0))), (1, .long x1), (3, .long x3), (5, .int x5), (6, .int x6), (7, .int x7)] []) (hk37 : ∀ (x5 : Int32) (x6 : Int32) (x7 : Int32) (x8 : Int32) (ma : Nat → Nat → Int32), k37 x5 x6 x7 x8 ma → VV l E X cX6_likeOf RX6 "likeOf" 10 r_X6_likeOf (some .int) (vpi (fun (r : Int32) (h' : AH) => ∃ (ma' : Nat → Nat → Int32), h' = (mH b mi ma' ml) ∧ post r ma')) (mH b mi ma ml) 0 0 37 [(0, va_rf (some (b 0))), (1, .long x1), (3, .long x3), (5, .int x5), (6, .int x6), (7, .int x7), (8, .int x8)] []) (x5 : Int32) (x6 : Int32) (x7 : Int32) (x8 : Int32) (x9 : Int32) (ma : Nat → Nat → Int32) (hw : w_X6_likeOf_193 post k27 k37 x1 x3 mi ml x5 x6 x7 x8 x9 ma) : VV l E X cX6_likeOf RX6 "likeOf" 10 r_X6_likeOf (some .int) (vpi (fun (r : Int32) (h' : AH) => ∃ (ma' : Nat → Nat → Int32), h' = (mH b mi ma' ml) ∧ post r ma')) (mH b mi ma ml) 0 0 193 [(0, va_rf (some (b 0))), (1, .long x1), (3, .long x3), (5, .int x5), (6, .int x6), (7, .int x7), (8, .int x8), (9, .int x9)] [] := by
  refine v_aload_n (q := 0) dX6_likeOf_193 rfl rfl ?_
  refine vm_get hb 5 (Nat.le_of_ble_eq_true rfl) q1619 rfl dX6_likeOf_194 rfl ?_
  refine v_bipush dX6_likeOf_197 bp_9 ?_
  refine v_iload (q := 5) dX6_likeOf_199 rfl ?_
  refine v_imul dX6_likeOf_201 ?_
  refine v_iload (q := 6) dX6_likeOf_202 rfl ?_
  refine v_iadd dX6_likeOf_204 ?_
  refine v_iload (q := 7) dX6_likeOf_205 rfl ?_
  obtain ⟨hi_1, hw⟩ := hw
  obtain ⟨ma_2, ema_2⟩ : ∃ z9 : Nat → Nat → Int32, z9 = mup ma 5 ((((nI 9) * x7) + x8)).toNatClampNeg x9 := ⟨_, rfl⟩
  replace hw := hw ma_2 ema_2
  refine v_iast dX6_likeOf_207 (mH_ar5 hb) hi_1 ?_
  refine v_heap (h' := mH b mi ma_2 ml) (by rw [ema_2]; exact mH_st5 hb) ?_
  obtain ⟨z_3, e_3⟩ : ∃ z9 : Int32, z9 = x8 + (nI 1) := ⟨_, rfl⟩
  replace hw := hw z_3 e_3
  refine v_iinc (q := 6) (v := z_3) (lv1 := [(8, .int z_3), (0, va_rf (some (b 0))), (1, .long x1), (3, .long x3), (5, .int x5), (6, .int x6), (7, .int x7), (9, .int x9)]) dX6_likeOf_208 rfl (by rw [e_3, ic_1]) (Nat.le_of_ble_eq_true rfl) rfl ?_
  refine v_goto (tgt := 37) dX6_likeOf_211 (by decide) ?_
  refine v_sub [1, 2, 3, 4, 5, 6, 0] rfl ?_
  exact hk37 x5 x6 x7 z_3 ma_2 hw
theorem b_X6_likeOf_125 {post : (Int32) → (Nat → Nat → Int32) → Prop}   {x1 : Int64} {x3 : Int64} {mi : Nat → Int32} {ml : Nat → Nat → Int64} {k27 : (Int32) → (Int32) → (Int32) → (Nat → Nat → Int32) → Prop} {k37 : (Int32) → (Int32) → (Int32) → (Int32) → (Nat → Nat → Int32) → Prop} (hb : mOK b)  (hk27 : ∀ (x5 : Int32) (x6 : Int32) (x7 : Int32) (ma : Nat → Nat → Int32), k27 x5 x6 x7 ma → VV l E X cX6_likeOf RX6 "likeOf" 10 r_X6_likeOf (some .int) (vpi (fun (r : Int32) (h' : AH) => ∃ (ma' : Nat → Nat → Int32), h' = (mH b mi ma' ml) ∧ post r ma')) (mH b mi ma ml) 0 0 27 [(0, va_rf (some (b 0))), (1, .long x1), (3, .long x3), (5, .int x5), (6, .int x6), (7, .int x7)] []) (hk37 : ∀ (x5 : Int32) (x6 : Int32) (x7 : Int32) (x8 : Int32) (ma : Nat → Nat → Int32), k37 x5 x6 x7 x8 ma → VV l E X cX6_likeOf RX6 "likeOf" 10 r_X6_likeOf (some .int) (vpi (fun (r : Int32) (h' : AH) => ∃ (ma' : Nat → Nat → Int32), h' = (mH b mi ma' ml) ∧ post r ma')) (mH b mi ma ml) 0 0 37 [(0, va_rf (some (b 0))), (1, .long x1), (3, .long x3), (5, .int x5), (6, .int x6), (7, .int x7), (8, .int x8)] []) (x5 : Int32) (x6 : Int32) (x7 : Int32) (x8 : Int32) (s0 : Int32) (ma : Nat → Nat → Int32) (hw : w_X6_likeOf_125 post k27 k37 x1 x3 mi ml x5 x6 x7 x8 s0 ma) : VV l E X cX6_likeOf RX6 "likeOf" 10 r_X6_likeOf (some .int) (vpi (fun (r : Int32) (h' : AH) => ∃ (ma' : Nat → Nat → Int32), h' = (mH b mi ma' ml) ∧ post r ma')) (mH b mi ma ml) 0 0 125 [(0, va_rf (some (b 0))), (1, .long x1), (3, .long x3), (5, .int x5), (6, .int x6), (7, .int x7), (8, .int x8)] [.int s0] := by
  refine v_istore (lv1 := [(9, .int s0), (0, va_rf (some (b 0))), (1, .long x1), (3, .long x3), (5, .int x5), (6, .int x6), (7, .int x7), (8, .int x8)]) dX6_likeOf_125 (Nat.le_of_ble_eq_true rfl) rfl ?_
  refine v_lload_n (q := 2) dX6_likeOf_127 rfl rfl ?_
  refine v_iload (q := 6) dX6_likeOf_128 rfl ?_
  refine v_iconst dX6_likeOf_130 ic_1 ?_
  refine v_isub dX6_likeOf_131 ?_
  refine v_callS q1756 q1757 q113 q1758 n_X6_wordAt ⟨Nat.le_of_ble_eq_true rfl, Nat.le_of_ble_eq_true rfl⟩ [.long x1, .int (x7 - (nI 1))] [] (met_X6_wordAt hw) rfl (Nat.zero_le _) ⟨Nat.le_refl _, Nat.le_refl _⟩ dX6_likeOf_132 rfl (v_ki (fun z_4 h1 hv => ?_))
  clear hw
  obtain ⟨e9, hw⟩ := hv
  refine v_heap e9 ?_
  clear e9
  refine v_lload_n (q := 3) dX6_likeOf_135 rfl rfl ?_
  refine v_iload (q := 7) dX6_likeOf_136 rfl ?_
  refine v_iconst dX6_likeOf_138 ic_1 ?_
  refine v_isub dX6_likeOf_139 ?_
  refine v_callS q1756 q1757 q113 q1758 n_X6_wordAt ⟨Nat.le_of_ble_eq_true rfl, Nat.le_of_ble_eq_true rfl⟩ [.long x3, .int (x8 - (nI 1))] [.int z_4] (met_X6_wordAt hw) rfl (Nat.le_of_ble_eq_true rfl) ⟨Nat.le_refl _, Nat.le_refl _⟩ dX6_likeOf_140 rfl (v_ki (fun z_5 h1 hv => ?_))
  clear hw
  obtain ⟨e9, hw⟩ := hv
  refine v_heap e9 ?_
  clear e9
  obtain ⟨hw_8, hw_9⟩ := hw
  refine v_icmp_ne (tgt := 193) dX6_likeOf_143 (by decide) (fun c_6 => ?_) (fun c_7 => ?_)
  · have hw := hw_8 c_6
    refine v_sub [1, 2, 3, 4, 5, 6, 7, 0] rfl ?_
    exact b_X6_likeOf_193 hb hk27 hk37 x5 x6 x7 x8 s0 ma hw
  · have hw := hw_9 c_7
    refine v_aload_n (q := 1) dX6_likeOf_146 rfl rfl ?_
    refine vm_get hb 5 (Nat.le_of_ble_eq_true rfl) q1619 rfl dX6_likeOf_147 rfl ?_
    refine v_bipush dX6_likeOf_150 bp_9 ?_
    refine v_iload (q := 6) dX6_likeOf_152 rfl ?_
    refine v_imul dX6_likeOf_154 ?_
    refine v_bipush dX6_likeOf_155 bp_9 ?_
    refine v_isub dX6_likeOf_157 ?_
    refine v_iload (q := 7) dX6_likeOf_158 rfl ?_
    refine v_iadd dX6_likeOf_160 ?_
    refine v_iconst dX6_likeOf_161 ic_1 ?_
    refine v_isub dX6_likeOf_162 ?_
    obtain ⟨hi_10, hw⟩ := hw
    refine v_iald dX6_likeOf_163 (mH_ar5 hb) hi_10 ?_
    refine v_iconst dX6_likeOf_164 ic_1 ?_
    refine v_iadd dX6_likeOf_165 ?_
    refine v_iload (q := 0) dX6_likeOf_166 rfl ?_
    obtain ⟨hw_13, hw_14⟩ := hw
    refine v_icmp_le (tgt := 193) dX6_likeOf_168 (by decide) (fun c_11 => ?_) (fun c_12 => ?_)
    · have hw := hw_13 c_11
      refine v_sub [1, 2, 3, 4, 5, 6, 7, 0] rfl ?_
      exact b_X6_likeOf_193 hb hk27 hk37 x5 x6 x7 x8 s0 ma hw
    · have hw := hw_14 c_12
      refine v_aload_n (q := 1) dX6_likeOf_171 rfl rfl ?_
      refine vm_get hb 5 (Nat.le_of_ble_eq_true rfl) q1619 rfl dX6_likeOf_172 rfl ?_
      refine v_bipush dX6_likeOf_175 bp_9 ?_
      refine v_iload (q := 6) dX6_likeOf_177 rfl ?_
      refine v_imul dX6_likeOf_179 ?_
      refine v_bipush dX6_likeOf_180 bp_9 ?_
      refine v_isub dX6_likeOf_182 ?_
      refine v_iload (q := 7) dX6_likeOf_183 rfl ?_
      refine v_iadd dX6_likeOf_185 ?_
      refine v_iconst dX6_likeOf_186 ic_1 ?_
      refine v_isub dX6_likeOf_187 ?_
      obtain ⟨hi_15, hw⟩ := hw
      refine v_iald dX6_likeOf_188 (mH_ar5 hb) hi_15 ?_
      refine v_iconst dX6_likeOf_189 ic_1 ?_
      refine v_iadd dX6_likeOf_190 ?_
      refine v_topi (fun z_16 e_16 => ?_)
      replace hw := hw z_16 e_16
      refine v_istore (lv1 := [(9, .int z_16), (0, va_rf (some (b 0))), (1, .long x1), (3, .long x3), (5, .int x5), (6, .int x6), (7, .int x7), (8, .int x8)]) dX6_likeOf_191 (Nat.le_of_ble_eq_true rfl) rfl ?_
      refine v_sub [1, 2, 3, 4, 5, 6, 7, 0] rfl ?_
      exact b_X6_likeOf_193 hb hk27 hk37 x5 x6 x7 x8 z_16 ma hw
theorem b_X6_likeOf_37 {post : (Int32) → (Nat → Nat → Int32) → Prop}   {x1 : Int64} {x3 : Int64} {mi : Nat → Int32} {ml : Nat → Nat → Int64} {k27 : (Int32) → (Int32) → (Int32) → (Nat → Nat → Int32) → Prop} (hb : mOK b)  (hk27 : ∀ (x5 : Int32) (x6 : Int32) (x7 : Int32) (ma : Nat → Nat → Int32), k27 x5 x6 x7 ma → VV l E X cX6_likeOf RX6 "likeOf" 10 r_X6_likeOf (some .int) (vpi (fun (r : Int32) (h' : AH) => ∃ (ma' : Nat → Nat → Int32), h' = (mH b mi ma' ml) ∧ post r ma')) (mH b mi ma ml) 0 0 27 [(0, va_rf (some (b 0))), (1, .long x1), (3, .long x3), (5, .int x5), (6, .int x6), (7, .int x7)] []) : ∀ (n0 : Nat) (x5 : Int32) (x6 : Int32) (x7 : Int32) (x8 : Int32) (ma : Nat → Nat → Int32), w_X6_likeOf_37 post k27 x1 x3 mi ml n0 x5 x6 x7 x8 ma → VV l E X cX6_likeOf RX6 "likeOf" 10 r_X6_likeOf (some .int) (vpi (fun (r : Int32) (h' : AH) => ∃ (ma' : Nat → Nat → Int32), h' = (mH b mi ma' ml) ∧ post r ma')) (mH b mi ma ml) 0 0 37 [(0, va_rf (some (b 0))), (1, .long x1), (3, .long x3), (5, .int x5), (6, .int x6), (7, .int x7), (8, .int x8)] [] := by
  intro n0
  induction n0 with
  | zero =>
    intro x5 x6 x7 x8 ma hw
    exact hw.elim
  | succ n0 ih =>
    intro x5 x6 x7 x8 ma hw
    refine v_iload (q := 6) dX6_likeOf_37 rfl ?_
    refine v_iload (q := 4) dX6_likeOf_39 rfl ?_
    obtain ⟨hw_19, hw_20⟩ := hw
    refine v_icmp_gt (tgt := 214) dX6_likeOf_41 (by decide) (fun c_17 => ?_) (fun c_18 => ?_)
    · have hw := hw_19 c_17
      obtain ⟨z_21, e_21⟩ : ∃ z9 : Int32, z9 = x7 + (nI 1) := ⟨_, rfl⟩
      replace hw := hw z_21 e_21
      refine v_iinc (q := 5) (v := z_21) (lv1 := [(7, .int z_21), (0, va_rf (some (b 0))), (1, .long x1), (3, .long x3), (5, .int x5), (6, .int x6), (8, .int x8)]) dX6_likeOf_214 rfl (by rw [e_21, ic_1]) (Nat.le_of_ble_eq_true rfl) rfl ?_
      refine v_goto (tgt := 27) dX6_likeOf_217 (by decide) ?_
      refine v_sub [1, 2, 3, 4, 5, 0] rfl ?_
      exact hk27 x5 x6 z_21 ma hw
    · have hw := hw_20 c_18
      refine v_iconst dX6_likeOf_44 ic_0 ?_
      refine v_istore (lv1 := [(9, .int (nI 0)), (0, va_rf (some (b 0))), (1, .long x1), (3, .long x3), (5, .int x5), (6, .int x6), (7, .int x7), (8, .int x8)]) dX6_likeOf_45 (Nat.le_of_ble_eq_true rfl) rfl ?_
      refine v_iload (q := 6) dX6_likeOf_47 rfl ?_
      obtain ⟨hw_24, hw_25⟩ := hw
      refine v_if_le (tgt := 193) dX6_likeOf_49 (by decide) (fun c_22 => ?_) (fun c_23 => ?_)
      · have hw := hw_24 c_22
        refine v_sub [1, 2, 3, 4, 5, 6, 7, 0] rfl ?_
        exact b_X6_likeOf_193 hb hk27 (fun q0 q1 q2 q3 q4 z => ih q0 q1 q2 q3 q4 z) x5 x6 x7 x8 (nI 0) ma hw
      · have hw := hw_25 c_23
        refine v_iload (q := 7) dX6_likeOf_52 rfl ?_
        obtain ⟨hw_28, hw_29⟩ := hw
        refine v_if_le (tgt := 193) dX6_likeOf_54 (by decide) (fun c_26 => ?_) (fun c_27 => ?_)
        · have hw := hw_28 c_26
          refine v_sub [1, 2, 3, 4, 5, 6, 7, 0] rfl ?_
          exact b_X6_likeOf_193 hb hk27 (fun q0 q1 q2 q3 q4 z => ih q0 q1 q2 q3 q4 z) x5 x6 x7 x8 (nI 0) ma hw
        · have hw := hw_29 c_27
          refine v_aload_n (q := 1) dX6_likeOf_57 rfl rfl ?_
          refine vm_get hb 5 (Nat.le_of_ble_eq_true rfl) q1619 rfl dX6_likeOf_58 rfl ?_
          refine v_bipush dX6_likeOf_61 bp_9 ?_
          refine v_iload (q := 6) dX6_likeOf_63 rfl ?_
          refine v_imul dX6_likeOf_65 ?_
          refine v_bipush dX6_likeOf_66 bp_9 ?_
          refine v_isub dX6_likeOf_68 ?_
          refine v_iload (q := 7) dX6_likeOf_69 rfl ?_
          refine v_iadd dX6_likeOf_71 ?_
          obtain ⟨hi_30, hw⟩ := hw
          refine v_iald dX6_likeOf_72 (mH_ar5 hb) hi_30 ?_
          refine v_aload_n (q := 1) dX6_likeOf_73 rfl rfl ?_
          refine vm_get hb 5 (Nat.le_of_ble_eq_true rfl) q1619 rfl dX6_likeOf_74 rfl ?_
          refine v_bipush dX6_likeOf_77 bp_9 ?_
          refine v_iload (q := 6) dX6_likeOf_79 rfl ?_
          refine v_imul dX6_likeOf_81 ?_
          refine v_iload (q := 7) dX6_likeOf_82 rfl ?_
          refine v_iadd dX6_likeOf_84 ?_
          refine v_iconst dX6_likeOf_85 ic_1 ?_
          refine v_isub dX6_likeOf_86 ?_
          obtain ⟨hi_31, hw⟩ := hw
          refine v_iald dX6_likeOf_87 (mH_ar5 hb) hi_31 ?_
          obtain ⟨hw_34, hw_35⟩ := hw
          refine v_icmp_le (tgt := 110) dX6_likeOf_88 (by decide) (fun c_32 => ?_) (fun c_33 => ?_)
          · have hw := hw_34 c_32
            refine v_aload_n (q := 1) dX6_likeOf_110 rfl rfl ?_
            refine vm_get hb 5 (Nat.le_of_ble_eq_true rfl) q1619 rfl dX6_likeOf_111 rfl ?_
            refine v_bipush dX6_likeOf_114 bp_9 ?_
            refine v_iload (q := 6) dX6_likeOf_116 rfl ?_
            refine v_imul dX6_likeOf_118 ?_
            refine v_iload (q := 7) dX6_likeOf_119 rfl ?_
            refine v_iadd dX6_likeOf_121 ?_
            refine v_iconst dX6_likeOf_122 ic_1 ?_
            refine v_isub dX6_likeOf_123 ?_
            obtain ⟨hi_36, hw⟩ := hw
            refine v_iald dX6_likeOf_124 (mH_ar5 hb) hi_36 ?_
            refine v_sub [1, 2, 3, 4, 5, 6, 7] rfl ?_
            exact b_X6_likeOf_125 hb hk27 (fun q0 q1 q2 q3 q4 z => ih q0 q1 q2 q3 q4 z) x5 x6 x7 x8 (ma 5 (((((nI 9) * x7) + x8) - (nI 1))).toNatClampNeg) ma hw
          · have hw := hw_35 c_33
            refine v_aload_n (q := 1) dX6_likeOf_91 rfl rfl ?_
            refine vm_get hb 5 (Nat.le_of_ble_eq_true rfl) q1619 rfl dX6_likeOf_92 rfl ?_
            refine v_bipush dX6_likeOf_95 bp_9 ?_
            refine v_iload (q := 6) dX6_likeOf_97 rfl ?_
            refine v_imul dX6_likeOf_99 ?_
            refine v_bipush dX6_likeOf_100 bp_9 ?_
            refine v_isub dX6_likeOf_102 ?_
            refine v_iload (q := 7) dX6_likeOf_103 rfl ?_
            refine v_iadd dX6_likeOf_105 ?_
            obtain ⟨hi_37, hw⟩ := hw
            refine v_iald dX6_likeOf_106 (mH_ar5 hb) hi_37 ?_
            refine v_goto (tgt := 125) dX6_likeOf_107 (by decide) ?_
            refine v_sub [1, 2, 3, 4, 5, 6, 7] rfl ?_
            exact b_X6_likeOf_125 hb hk27 (fun q0 q1 q2 q3 q4 z => ih q0 q1 q2 q3 q4 z) x5 x6 x7 x8 (ma 5 (((((nI 9) * x7) - (nI 9)) + x8)).toNatClampNeg) ma hw
theorem b_X6_likeOf_250 {post : (Int32) → (Nat → Nat → Int32) → Prop}   {x1 : Int64} {x3 : Int64} {mi : Nat → Int32} {ml : Nat → Nat → Int64}  (hb : mOK b)   (s0 : Int32) (s1 : Int32) (ma : Nat → Nat → Int32) (hw : w_X6_likeOf_250 post x1 x3 mi ml s0 s1 ma) : VV l E X cX6_likeOf RX6 "likeOf" 10 r_X6_likeOf (some .int) (vpi (fun (r : Int32) (h' : AH) => ∃ (ma' : Nat → Nat → Int32), h' = (mH b mi ma' ml) ∧ post r ma')) (mH b mi ma ml) 0 0 250 [(0, va_rf (some (b 0))), (1, .long x1), (3, .long x3)] [.int s0, .int s1] := by
  obtain ⟨hz_38, hw⟩ := hw
  refine v_idiv dX6_likeOf_250 hz_38 ?_
  exact v_iret dX6_likeOf_251 rfl ⟨_, rfl, _, rfl, hw⟩
theorem b_X6_likeOf_27 {post : (Int32) → (Nat → Nat → Int32) → Prop}   {x1 : Int64} {x3 : Int64} {mi : Nat → Int32} {ml : Nat → Nat → Int64}  (hb : mOK b)   : ∀ (n0 : Nat) (x5 : Int32) (x6 : Int32) (x7 : Int32) (ma : Nat → Nat → Int32), w_X6_likeOf_27 post x1 x3 mi ml n0 x5 x6 x7 ma → VV l E X cX6_likeOf RX6 "likeOf" 10 r_X6_likeOf (some .int) (vpi (fun (r : Int32) (h' : AH) => ∃ (ma' : Nat → Nat → Int32), h' = (mH b mi ma' ml) ∧ post r ma')) (mH b mi ma ml) 0 0 27 [(0, va_rf (some (b 0))), (1, .long x1), (3, .long x3), (5, .int x5), (6, .int x6), (7, .int x7)] [] := by
  intro n0
  induction n0 with
  | zero =>
    intro x5 x6 x7 ma hw
    exact hw.elim
  | succ n0 ih =>
    intro x5 x6 x7 ma hw
    refine v_iload (q := 5) dX6_likeOf_27 rfl ?_
    refine v_iload (q := 3) dX6_likeOf_29 rfl ?_
    obtain ⟨hw_41, hw_42⟩ := hw
    refine v_icmp_gt (tgt := 220) dX6_likeOf_31 (by decide) (fun c_39 => ?_) (fun c_40 => ?_)
    · have hw := hw_41 c_39
      refine v_bipush dX6_likeOf_220 bp_100 ?_
      refine v_aload_n (q := 0) dX6_likeOf_222 rfl rfl ?_
      refine vm_get hb 5 (Nat.le_of_ble_eq_true rfl) q1619 rfl dX6_likeOf_223 rfl ?_
      refine v_bipush dX6_likeOf_226 bp_9 ?_
      refine v_iload (q := 3) dX6_likeOf_228 rfl ?_
      refine v_imul dX6_likeOf_230 ?_
      refine v_iload (q := 4) dX6_likeOf_231 rfl ?_
      refine v_iadd dX6_likeOf_233 ?_
      obtain ⟨hi_43, hw⟩ := hw
      refine v_iald dX6_likeOf_234 (mH_ar5 hb) hi_43 ?_
      refine v_imul dX6_likeOf_235 ?_
      refine v_iload (q := 3) dX6_likeOf_236 rfl ?_
      refine v_iload (q := 4) dX6_likeOf_238 rfl ?_
      obtain ⟨hw_46, hw_47⟩ := hw
      refine v_icmp_le (tgt := 248) dX6_likeOf_240 (by decide) (fun c_44 => ?_) (fun c_45 => ?_)
      · have hw := hw_46 c_44
        refine v_iload (q := 4) dX6_likeOf_248 rfl ?_
        refine v_sub [0, 1, 2] rfl ?_
        exact b_X6_likeOf_250 hb x6 ((nI 100) * (ma 5 ((((nI 9) * x5) + x6)).toNatClampNeg)) ma hw
      · have hw := hw_47 c_45
        refine v_iload (q := 3) dX6_likeOf_243 rfl ?_
        refine v_goto (tgt := 250) dX6_likeOf_245 (by decide) ?_
        refine v_sub [0, 1, 2] rfl ?_
        exact b_X6_likeOf_250 hb x5 ((nI 100) * (ma 5 ((((nI 9) * x5) + x6)).toNatClampNeg)) ma hw
    · have hw := hw_42 c_40
      refine v_iconst dX6_likeOf_34 ic_0 ?_
      refine v_istore (lv1 := [(8, .int (nI 0)), (0, va_rf (some (b 0))), (1, .long x1), (3, .long x3), (5, .int x5), (6, .int x6), (7, .int x7)]) dX6_likeOf_35 (Nat.le_of_ble_eq_true rfl) rfl ?_
      obtain ⟨n_48, hw⟩ := hw
      refine v_sub [1, 2, 3, 4, 5, 6, 0] rfl ?_
      exact b_X6_likeOf_37 hb (fun q0 q1 q2 q3 z => ih q0 q1 q2 q3 z) n_48 x5 x6 x7 (nI 0) ma hw
theorem e_X6_likeOf {post : (Int32) → (Nat → Nat → Int32) → Prop}   {x1 : Int64} {x3 : Int64} {mi : Nat → Int32} {ma : Nat → Nat → Int32} {ml : Nat → Nat → Int64} (hb : mOK b)  (hw : w_X6_likeOf post  x1 x3 mi ma ml) : VV l E X cX6_likeOf RX6 "likeOf" 10 r_X6_likeOf (some .int) (vpi (fun (r : Int32) (h' : AH) => ∃ (ma' : Nat → Nat → Int32), h' = (mH b mi ma' ml) ∧ post r ma')) (mH b mi ma ml) 0 0 0 [(0, va_rf (some (b 0))), (1, .long x1), (3, .long x3)] [] := by
  refine v_lload_n (q := 1) dX6_likeOf_0 rfl rfl ?_
  refine v_callS q1753 q1754 q113 q1755 n_X6_lengthOf ⟨Nat.le_of_ble_eq_true rfl, Nat.le_of_ble_eq_true rfl⟩ [.long x1] [] (met_X6_lengthOf hw) rfl (Nat.zero_le _) ⟨Nat.le_refl _, Nat.le_refl _⟩ dX6_likeOf_1 rfl (v_ki (fun z_49 h1 hv => ?_))
  clear hw
  obtain ⟨e9, hw⟩ := hv
  refine v_heap e9 ?_
  clear e9
  refine v_istore (lv1 := [(5, .int z_49), (0, va_rf (some (b 0))), (1, .long x1), (3, .long x3)]) dX6_likeOf_4 (Nat.le_of_ble_eq_true rfl) rfl ?_
  refine v_lload_n (q := 3) dX6_likeOf_6 rfl rfl ?_
  refine v_callS q1753 q1754 q113 q1755 n_X6_lengthOf ⟨Nat.le_of_ble_eq_true rfl, Nat.le_of_ble_eq_true rfl⟩ [.long x3] [] (met_X6_lengthOf hw) rfl (Nat.zero_le _) ⟨Nat.le_refl _, Nat.le_refl _⟩ dX6_likeOf_7 rfl (v_ki (fun z_50 h1 hv => ?_))
  clear hw
  obtain ⟨e9, hw⟩ := hv
  refine v_heap e9 ?_
  clear e9
  refine v_istore (lv1 := [(6, .int z_50), (5, .int z_49), (0, va_rf (some (b 0))), (1, .long x1), (3, .long x3)]) dX6_likeOf_10 (Nat.le_of_ble_eq_true rfl) rfl ?_
  refine v_iload (q := 1) dX6_likeOf_12 rfl ?_
  obtain ⟨hw_53, hw_54⟩ := hw
  refine v_if_eq (tgt := 22) dX6_likeOf_14 (by decide) (fun c_51 => ?_) (fun c_52 => ?_)
  · have hw := hw_53 c_51
    refine v_iconst dX6_likeOf_22 ic_0 ?_
    exact v_iret dX6_likeOf_23 rfl ⟨_, rfl, _, rfl, hw⟩
  · have hw := hw_54 c_52
    refine v_iload (q := 0) dX6_likeOf_17 rfl ?_
    obtain ⟨hw_57, hw_58⟩ := hw
    refine v_if_ne (tgt := 24) dX6_likeOf_19 (by decide) (fun c_55 => ?_) (fun c_56 => ?_)
    · have hw := hw_57 c_55
      refine v_iconst dX6_likeOf_24 ic_0 ?_
      refine v_istore (lv1 := [(7, .int (nI 0)), (6, .int z_50), (5, .int z_49), (0, va_rf (some (b 0))), (1, .long x1), (3, .long x3)]) dX6_likeOf_25 (Nat.le_of_ble_eq_true rfl) rfl ?_
      obtain ⟨n_59, hw⟩ := hw
      refine v_sub [3, 4, 5, 2, 1, 0] rfl ?_
      exact b_X6_likeOf_27 hb n_59 z_49 z_50 (nI 0) ma hw
    · have hw := hw_58 c_56
      refine v_iconst dX6_likeOf_22 ic_0 ?_
      exact v_iret dX6_likeOf_23 rfl ⟨_, rfl, _, rfl, hw⟩
theorem met_X6_likeOf {post : (Int32) → (Nat → Nat → Int32) → Prop}   {x1 : Int64} {x3 : Int64} {mi : Nat → Int32} {ma : Nat → Nat → Int32} {ml : Nat → Nat → Int64} (hb : mOK b)  (hw : w_X6_likeOf post  x1 x3 mi ma ml) : Mt l E yX6_likeOf (ws_ yX6_likeOf cX6_likeOf 10 (some .int)) r_X6_likeOf [va_rf (some (b 0)), .long x1, .long x3] (mH b mi ma ml) (vpi (fun (r : Int32) (h' : AH) => ∃ (ma' : Nat → Nat → Int32), h' = (mH b mi ma' ml) ∧ post r ma')) := v_entry (by decide +kernel) (Nat.le_of_ble_eq_true rfl) rfl (fun _ => e_X6_likeOf hb hw)
/-! X6_like -/
abbrev r_X6_like : Room := { frames := 3, cells := 0, slots := 0, locals := 73 }
theorem n_X6_like : vdn yX6_like 2 := ⟨by decide +kernel, by decide +kernel, by decide +kernel⟩
def w_X6_like_19 (post : (Int32) → (Nat → Int32) → (Nat → Nat → Int32) → Prop) (x1 : Int64) (x3 : Int64) (ml : Nat → Nat → Int64) (mi : Nat → Int32) (ma : Nat → Nat → Int32) : Prop :=
 (w_X6_no (fun (z_1 : Int32) (ma_2 : Nat → Nat → Int32) => (post z_1 mi ma_2)) (-3) mi ma ml)
def w_X6_like (post : (Int32) → (Nat → Int32) → (Nat → Nat → Int32) → Prop) (x1 : Int64) (x3 : Int64) (mi : Nat → Int32) (ma : Nat → Nat → Int32) (ml : Nat → Nat → Int64) : Prop :=
 (∀ mi_3 : Nat → Int32, mi_3 = upd mi 0 (nI 0) → (w_X6_lengthOf (fun (z_4 : Int32) => ((z_4 = 0 → (w_X6_like_19 post x1 x3 ml mi_3 ma)) ∧ (¬ z_4 = 0 → (w_X6_lengthOf (fun (z_9 : Int32) => ((¬ z_9 = 0 → (w_X6_likeOf (fun (z_14 : Int32) (ma_15 : Nat → Nat → Int32) => (post z_14 mi_3 ma_15)) x1 x3 mi_3 ma ml)) ∧ (z_9 = 0 → (w_X6_like_19 post x1 x3 ml mi_3 ma)))) x3)))) x1))
theorem b_X6_like_19 {post : (Int32) → (Nat → Int32) → (Nat → Nat → Int32) → Prop}   {x1 : Int64} {x3 : Int64} {ml : Nat → Nat → Int64}  (hb : mOK b)   (mi : Nat → Int32) (ma : Nat → Nat → Int32) (hw : w_X6_like_19 post x1 x3 ml mi ma) : VV l E X cX6_like RX6 "like" 5 r_X6_like (some .int) (vpi (fun (r : Int32) (h' : AH) => ∃ (mi' : Nat → Int32) (ma' : Nat → Nat → Int32), h' = (mH b mi' ma' ml) ∧ post r mi' ma')) (mH b mi ma ml) 0 0 19 [(0, va_rf (some (b 0))), (1, .long x1), (3, .long x3)] [] := by
  refine v_aload_n (q := 0) dX6_like_19 rfl rfl ?_
  refine v_bipush dX6_like_20 bp_m3 ?_
  refine v_callV q1737 q1739 qs53 q113 q1740 (ci := 7) rfl (mH_obj hb) n_X6_no ⟨Nat.le_of_ble_eq_true rfl, Nat.le_of_ble_eq_true rfl⟩ [.int (-3)] [] (met_X6_no hb hw) rfl (Nat.zero_le _) ⟨Nat.le_refl _, Nat.le_refl _⟩ dX6_like_22 rfl (v_ki (fun z_1 h1 hv => ?_))
  clear hw
  obtain ⟨ma_2, rfl, hw⟩ := hv
  exact v_iret dX6_like_25 rfl ⟨_, rfl, _, _, rfl, hw⟩
theorem e_X6_like {post : (Int32) → (Nat → Int32) → (Nat → Nat → Int32) → Prop}   {x1 : Int64} {x3 : Int64} {mi : Nat → Int32} {ma : Nat → Nat → Int32} {ml : Nat → Nat → Int64} (hb : mOK b)  (hw : w_X6_like post  x1 x3 mi ma ml) : VV l E X cX6_like RX6 "like" 5 r_X6_like (some .int) (vpi (fun (r : Int32) (h' : AH) => ∃ (mi' : Nat → Int32) (ma' : Nat → Nat → Int32), h' = (mH b mi' ma' ml) ∧ post r mi' ma')) (mH b mi ma ml) 0 0 0 [(0, va_rf (some (b 0))), (1, .long x1), (3, .long x3)] [] := by
  refine v_aload_n (q := 0) dX6_like_0 rfl rfl ?_
  refine v_iconst dX6_like_1 ic_0 ?_
  obtain ⟨mi_3, emi_3⟩ : ∃ z9 : Nat → Int32, z9 = upd mi 0 (nI 0) := ⟨_, rfl⟩
  replace hw := hw mi_3 emi_3
  refine vm_put hb 0 (Nat.le_of_ble_eq_true rfl) q1614 rfl rfl rfl dX6_like_2 emi_3 rfl ?_
  refine v_lload_n (q := 1) dX6_like_5 rfl rfl ?_
  refine v_callS q1753 q1754 q113 q1755 n_X6_lengthOf ⟨Nat.le_of_ble_eq_true rfl, Nat.le_of_ble_eq_true rfl⟩ [.long x1] [] (met_X6_lengthOf hw) rfl (Nat.zero_le _) ⟨Nat.le_refl _, Nat.le_refl _⟩ dX6_like_6 rfl (v_ki (fun z_4 h1 hv => ?_))
  clear hw
  obtain ⟨e9, hw⟩ := hv
  refine v_heap e9 ?_
  clear e9
  obtain ⟨hw_7, hw_8⟩ := hw
  refine v_if_eq (tgt := 19) dX6_like_9 (by decide) (fun c_5 => ?_) (fun c_6 => ?_)
  · have hw := hw_7 c_5
    refine v_sub [0, 1, 2] rfl ?_
    exact b_X6_like_19 hb mi_3 ma hw
  · have hw := hw_8 c_6
    refine v_lload_n (q := 2) dX6_like_12 rfl rfl ?_
    refine v_callS q1753 q1754 q113 q1755 n_X6_lengthOf ⟨Nat.le_of_ble_eq_true rfl, Nat.le_of_ble_eq_true rfl⟩ [.long x3] [] (met_X6_lengthOf hw) rfl (Nat.zero_le _) ⟨Nat.le_refl _, Nat.le_refl _⟩ dX6_like_13 rfl (v_ki (fun z_9 h1 hv => ?_))
    clear hw
    obtain ⟨e9, hw⟩ := hv
    refine v_heap e9 ?_
    clear e9
    obtain ⟨hw_12, hw_13⟩ := hw
    refine v_if_ne (tgt := 26) dX6_like_16 (by decide) (fun c_10 => ?_) (fun c_11 => ?_)
    · have hw := hw_12 c_10
      refine v_aload_n (q := 0) dX6_like_26 rfl rfl ?_
      refine v_lload_n (q := 1) dX6_like_27 rfl rfl ?_
      refine v_lload_n (q := 2) dX6_like_28 rfl rfl ?_
      refine v_callV q1783 q1785 qs56 q113 q1786 (ci := 7) rfl (mH_obj hb) n_X6_likeOf ⟨Nat.le_of_ble_eq_true rfl, Nat.le_of_ble_eq_true rfl⟩ [.long x1, .long x3] [] (met_X6_likeOf hb hw) rfl (Nat.zero_le _) ⟨Nat.le_refl _, Nat.le_refl _⟩ dX6_like_29 rfl (v_ki (fun z_14 h1 hv => ?_))
      clear hw
      obtain ⟨ma_15, rfl, hw⟩ := hv
      exact v_iret dX6_like_32 rfl ⟨_, rfl, _, _, rfl, hw⟩
    · have hw := hw_13 c_11
      refine v_sub [0, 1, 2] rfl ?_
      exact b_X6_like_19 hb mi_3 ma hw
theorem met_X6_like {post : (Int32) → (Nat → Int32) → (Nat → Nat → Int32) → Prop}   {x1 : Int64} {x3 : Int64} {mi : Nat → Int32} {ma : Nat → Nat → Int32} {ml : Nat → Nat → Int64} (hb : mOK b)  (hw : w_X6_like post  x1 x3 mi ma ml) : Mt l E yX6_like (ws_ yX6_like cX6_like 5 (some .int)) r_X6_like [va_rf (some (b 0)), .long x1, .long x3] (mH b mi ma ml) (vpi (fun (r : Int32) (h' : AH) => ∃ (mi' : Nat → Int32) (ma' : Nat → Nat → Int32), h' = (mH b mi' ma' ml) ∧ post r mi' ma')) := v_entry (by decide +kernel) (Nat.le_of_ble_eq_true rfl) rfl (fun _ => e_X6_like hb hw)
/-! X6_feed -/
abbrev r_X6_feed : Room := { frames := 1, cells := 0, slots := 0, locals := 21 }
theorem n_X6_feed : vdn yX6_feed 5 := ⟨by decide +kernel, by decide +kernel, by decide +kernel⟩
def w_X6_feed_81 (post : (Int32) → (Nat → Int32) → (Nat → Nat → Int32) → Prop) (k28 : (Int32) → (Nat → Int32) → (Nat → Nat → Int32) → Prop) (x1 : Int32) (x2 : Int32) (x3 : Int32) (x4 : Int32) (x5 : Int32) (ml : Nat → Nat → Int64) (x6 : Int32) (s0 : Int32) (mi : Nat → Int32) (ma : Nat → Nat → Int32) : Prop :=
 (vp_in (mi 9) 400 ∧ ∀ ma_2 : Nat → Nat → Int32, ma_2 = mup ma 8 ((mi 9)).toNatClampNeg ((s0 >>> (((nI 24) - ((nI 8) * (x6 - x6 / (nI 4) * (nI 4)))) &&& 31)) &&& (nI 255)) → (∀ mi_3 : Nat → Int32, mi_3 = upd mi 9 ((mi 9) + (nI 1)) → (∀ z_4 : Int32, z_4 = x6 + (nI 1) → (k28 z_4 mi_3 ma_2))))
def w_X6_feed_28 (post : (Int32) → (Nat → Int32) → (Nat → Nat → Int32) → Prop) (x1 : Int32) (x2 : Int32) (x3 : Int32) (x4 : Int32) (x5 : Int32) (ml : Nat → Nat → Int64) : Nat → (Int32) → (Nat → Int32) → (Nat → Nat → Int32) → Prop
 | 0, _, _, _ => False
 | n0 + 1, x6, mi, ma =>
 (((nI 20) ≤ x6 → (post (mi 9) mi ma)) ∧ (¬ (nI 20) ≤ x6 → (((nI 4) ≤ x6 → (((nI 8) ≤ x6 → (((nI 12) ≤ x6 → (((nI 16) ≤ x6 → (w_X6_feed_81 post (fun (q0 : Int32) (q1 : Nat → Int32) (q2 : Nat → Nat → Int32) => w_X6_feed_28 post x1 x2 x3 x4 x5 ml n0 q0 q1 q2) x1 x2 x3 x4 x5 ml x6 x5 mi ma)) ∧ (¬ (nI 16) ≤ x6 → (w_X6_feed_81 post (fun (q0 : Int32) (q1 : Nat → Int32) (q2 : Nat → Nat → Int32) => w_X6_feed_28 post x1 x2 x3 x4 x5 ml n0 q0 q1 q2) x1 x2 x3 x4 x5 ml x6 x4 mi ma)))) ∧ (¬ (nI 12) ≤ x6 → (w_X6_feed_81 post (fun (q0 : Int32) (q1 : Nat → Int32) (q2 : Nat → Nat → Int32) => w_X6_feed_28 post x1 x2 x3 x4 x5 ml n0 q0 q1 q2) x1 x2 x3 x4 x5 ml x6 x3 mi ma)))) ∧ (¬ (nI 8) ≤ x6 → (w_X6_feed_81 post (fun (q0 : Int32) (q1 : Nat → Int32) (q2 : Nat → Nat → Int32) => w_X6_feed_28 post x1 x2 x3 x4 x5 ml n0 q0 q1 q2) x1 x2 x3 x4 x5 ml x6 x2 mi ma)))) ∧ (¬ (nI 4) ≤ x6 → (w_X6_feed_81 post (fun (q0 : Int32) (q1 : Nat → Int32) (q2 : Nat → Nat → Int32) => w_X6_feed_28 post x1 x2 x3 x4 x5 ml n0 q0 q1 q2) x1 x2 x3 x4 x5 ml x6 x1 mi ma)))))
def w_X6_feed (post : (Int32) → (Nat → Int32) → (Nat → Nat → Int32) → Prop) (x1 : Int32) (x2 : Int32) (x3 : Int32) (x4 : Int32) (x5 : Int32) (mi : Nat → Int32) (ma : Nat → Nat → Int32) (ml : Nat → Nat → Int64) : Prop :=
 (∀ mi_25 : Nat → Int32, mi_25 = upd mi 0 (nI 0) → ((((mi_25 9) + (nI 20)) ≤ (nI 400) → (∃ n1 : Nat, (w_X6_feed_28 post x1 x2 x3 x4 x5 ml n1 (nI 0) mi_25 ma))) ∧ (¬ ((mi_25 9) + (nI 20)) ≤ (nI 400) → (w_X6_no (fun (z_31 : Int32) (ma_32 : Nat → Nat → Int32) => (post z_31 mi_25 ma_32)) (-4) mi_25 ma ml))))
theorem b_X6_feed_81 {post : (Int32) → (Nat → Int32) → (Nat → Nat → Int32) → Prop}   {x1 : Int32} {x2 : Int32} {x3 : Int32} {x4 : Int32} {x5 : Int32} {ml : Nat → Nat → Int64} {k28 : (Int32) → (Nat → Int32) → (Nat → Nat → Int32) → Prop} (hb : mOK b)  (hk28 : ∀ (x6 : Int32) (mi : Nat → Int32) (ma : Nat → Nat → Int32), k28 x6 mi ma → VV l E X cX6_feed RX6 "feed" 8 r_X6_feed (some .int) (vpi (fun (r : Int32) (h' : AH) => ∃ (mi' : Nat → Int32) (ma' : Nat → Nat → Int32), h' = (mH b mi' ma' ml) ∧ post r mi' ma')) (mH b mi ma ml) 0 0 28 [(0, va_rf (some (b 0))), (1, .int x1), (2, .int x2), (3, .int x3), (4, .int x4), (5, .int x5), (6, .int x6)] []) (x6 : Int32) (s0 : Int32) (mi : Nat → Int32) (ma : Nat → Nat → Int32) (hw : w_X6_feed_81 post k28 x1 x2 x3 x4 x5 ml x6 s0 mi ma) : VV l E X cX6_feed RX6 "feed" 8 r_X6_feed (some .int) (vpi (fun (r : Int32) (h' : AH) => ∃ (mi' : Nat → Int32) (ma' : Nat → Nat → Int32), h' = (mH b mi' ma' ml) ∧ post r mi' ma')) (mH b mi ma ml) 0 0 81 [(0, va_rf (some (b 0))), (1, .int x1), (2, .int x2), (3, .int x3), (4, .int x4), (5, .int x5), (6, .int x6)] [.int s0] := by
  refine v_istore (lv1 := [(7, .int s0), (0, va_rf (some (b 0))), (1, .int x1), (2, .int x2), (3, .int x3), (4, .int x4), (5, .int x5), (6, .int x6)]) dX6_feed_81 (Nat.le_of_ble_eq_true rfl) rfl ?_
  refine v_aload_n (q := 1) dX6_feed_83 rfl rfl ?_
  refine vm_get hb 8 (Nat.le_of_ble_eq_true rfl) q1622 rfl dX6_feed_84 rfl ?_
  refine v_aload_n (q := 1) dX6_feed_87 rfl rfl ?_
  refine vm_get hb 9 (Nat.le_of_ble_eq_true rfl) q1623 rfl dX6_feed_88 rfl ?_
  refine v_iload (q := 0) dX6_feed_91 rfl ?_
  refine v_bipush dX6_feed_93 bp_24 ?_
  refine v_bipush dX6_feed_95 bp_8 ?_
  refine v_iload (q := 7) dX6_feed_97 rfl ?_
  refine v_iconst dX6_feed_99 ic_4 ?_
  refine v_irem dX6_feed_100 (by decide) ?_
  refine v_imul dX6_feed_101 ?_
  refine v_isub dX6_feed_102 ?_
  refine v_ishr dX6_feed_103 ?_
  refine v_sipush dX6_feed_104 sp_255 ?_
  refine v_iand dX6_feed_107 ?_
  obtain ⟨hi_1, hw⟩ := hw
  obtain ⟨ma_2, ema_2⟩ : ∃ z9 : Nat → Nat → Int32, z9 = mup ma 8 ((mi 9)).toNatClampNeg ((s0 >>> (((nI 24) - ((nI 8) * (x6 - x6 / (nI 4) * (nI 4)))) &&& 31)) &&& (nI 255)) := ⟨_, rfl⟩
  replace hw := hw ma_2 ema_2
  refine v_iast dX6_feed_108 (mH_ar8 hb) hi_1 ?_
  refine v_heap (h' := mH b mi ma_2 ml) (by rw [ema_2]; exact mH_st8 hb) ?_
  refine v_aload_n (q := 1) dX6_feed_109 rfl rfl ?_
  refine v_dup dX6_feed_110 (v_rf1 _) ?_
  refine vm_get hb 9 (Nat.le_of_ble_eq_true rfl) q1623 rfl dX6_feed_111 rfl ?_
  refine v_iconst dX6_feed_114 ic_1 ?_
  refine v_iadd dX6_feed_115 ?_
  obtain ⟨mi_3, emi_3⟩ : ∃ z9 : Nat → Int32, z9 = upd mi 9 ((mi 9) + (nI 1)) := ⟨_, rfl⟩
  replace hw := hw mi_3 emi_3
  refine vm_put hb 9 (Nat.le_of_ble_eq_true rfl) q1623 rfl rfl rfl dX6_feed_116 emi_3 rfl ?_
  obtain ⟨z_4, e_4⟩ : ∃ z9 : Int32, z9 = x6 + (nI 1) := ⟨_, rfl⟩
  replace hw := hw z_4 e_4
  refine v_iinc (q := 7) (v := z_4) (lv1 := [(6, .int z_4), (7, .int s0), (0, va_rf (some (b 0))), (1, .int x1), (2, .int x2), (3, .int x3), (4, .int x4), (5, .int x5)]) dX6_feed_119 rfl (by rw [e_4, ic_1]) (Nat.le_of_ble_eq_true rfl) rfl ?_
  refine v_goto (tgt := 28) dX6_feed_122 (by decide) ?_
  refine v_sub [2, 3, 4, 5, 6, 7, 0] rfl ?_
  exact hk28 z_4 mi_3 ma_2 hw
theorem b_X6_feed_28 {post : (Int32) → (Nat → Int32) → (Nat → Nat → Int32) → Prop}   {x1 : Int32} {x2 : Int32} {x3 : Int32} {x4 : Int32} {x5 : Int32} {ml : Nat → Nat → Int64}  (hb : mOK b)   : ∀ (n0 : Nat) (x6 : Int32) (mi : Nat → Int32) (ma : Nat → Nat → Int32), w_X6_feed_28 post x1 x2 x3 x4 x5 ml n0 x6 mi ma → VV l E X cX6_feed RX6 "feed" 8 r_X6_feed (some .int) (vpi (fun (r : Int32) (h' : AH) => ∃ (mi' : Nat → Int32) (ma' : Nat → Nat → Int32), h' = (mH b mi' ma' ml) ∧ post r mi' ma')) (mH b mi ma ml) 0 0 28 [(0, va_rf (some (b 0))), (1, .int x1), (2, .int x2), (3, .int x3), (4, .int x4), (5, .int x5), (6, .int x6)] [] := by
  intro n0
  induction n0 with
  | zero =>
    intro x6 mi ma hw
    exact hw.elim
  | succ n0 ih =>
    intro x6 mi ma hw
    refine v_iload (q := 6) dX6_feed_28 rfl ?_
    refine v_bipush dX6_feed_30 bp_20 ?_
    obtain ⟨hw_7, hw_8⟩ := hw
    refine v_icmp_ge (tgt := 125) dX6_feed_32 (by decide) (fun c_5 => ?_) (fun c_6 => ?_)
    · have hw := hw_7 c_5
      refine v_aload_n (q := 0) dX6_feed_125 rfl rfl ?_
      refine vm_get hb 9 (Nat.le_of_ble_eq_true rfl) q1623 rfl dX6_feed_126 rfl ?_
      exact v_iret dX6_feed_129 rfl ⟨_, rfl, _, _, rfl, hw⟩
    · have hw := hw_8 c_6
      refine v_iload (q := 6) dX6_feed_35 rfl ?_
      refine v_iconst dX6_feed_37 ic_4 ?_
      obtain ⟨hw_11, hw_12⟩ := hw
      refine v_icmp_ge (tgt := 45) dX6_feed_38 (by decide) (fun c_9 => ?_) (fun c_10 => ?_)
      · have hw := hw_11 c_9
        refine v_iload (q := 6) dX6_feed_45 rfl ?_
        refine v_bipush dX6_feed_47 bp_8 ?_
        obtain ⟨hw_15, hw_16⟩ := hw
        refine v_icmp_ge (tgt := 56) dX6_feed_49 (by decide) (fun c_13 => ?_) (fun c_14 => ?_)
        · have hw := hw_15 c_13
          refine v_iload (q := 6) dX6_feed_56 rfl ?_
          refine v_bipush dX6_feed_58 bp_12 ?_
          obtain ⟨hw_19, hw_20⟩ := hw
          refine v_icmp_ge (tgt := 67) dX6_feed_60 (by decide) (fun c_17 => ?_) (fun c_18 => ?_)
          · have hw := hw_19 c_17
            refine v_iload (q := 6) dX6_feed_67 rfl ?_
            refine v_bipush dX6_feed_69 bp_16 ?_
            obtain ⟨hw_23, hw_24⟩ := hw
            refine v_icmp_ge (tgt := 79) dX6_feed_71 (by decide) (fun c_21 => ?_) (fun c_22 => ?_)
            · have hw := hw_23 c_21
              refine v_iload (q := 5) dX6_feed_79 rfl ?_
              refine v_sub [0, 1, 2, 3, 4, 5, 6] rfl ?_
              exact b_X6_feed_81 hb (fun q0 q1 q2 z => ih q0 q1 q2 z) x6 x5 mi ma hw
            · have hw := hw_24 c_22
              refine v_iload (q := 4) dX6_feed_74 rfl ?_
              refine v_goto (tgt := 81) dX6_feed_76 (by decide) ?_
              refine v_sub [0, 1, 2, 3, 4, 5, 6] rfl ?_
              exact b_X6_feed_81 hb (fun q0 q1 q2 z => ih q0 q1 q2 z) x6 x4 mi ma hw
          · have hw := hw_20 c_18
            refine v_iload_n (q := 3) dX6_feed_63 rfl rfl ?_
            refine v_goto (tgt := 81) dX6_feed_64 (by decide) ?_
            refine v_sub [0, 1, 2, 3, 4, 5, 6] rfl ?_
            exact b_X6_feed_81 hb (fun q0 q1 q2 z => ih q0 q1 q2 z) x6 x3 mi ma hw
        · have hw := hw_16 c_14
          refine v_iload_n (q := 2) dX6_feed_52 rfl rfl ?_
          refine v_goto (tgt := 81) dX6_feed_53 (by decide) ?_
          refine v_sub [0, 1, 2, 3, 4, 5, 6] rfl ?_
          exact b_X6_feed_81 hb (fun q0 q1 q2 z => ih q0 q1 q2 z) x6 x2 mi ma hw
      · have hw := hw_12 c_10
        refine v_iload_n (q := 1) dX6_feed_41 rfl rfl ?_
        refine v_goto (tgt := 81) dX6_feed_42 (by decide) ?_
        refine v_sub [0, 1, 2, 3, 4, 5, 6] rfl ?_
        exact b_X6_feed_81 hb (fun q0 q1 q2 z => ih q0 q1 q2 z) x6 x1 mi ma hw
theorem e_X6_feed {post : (Int32) → (Nat → Int32) → (Nat → Nat → Int32) → Prop}   {x1 : Int32} {x2 : Int32} {x3 : Int32} {x4 : Int32} {x5 : Int32} {mi : Nat → Int32} {ma : Nat → Nat → Int32} {ml : Nat → Nat → Int64} (hb : mOK b)  (hw : w_X6_feed post  x1 x2 x3 x4 x5 mi ma ml) : VV l E X cX6_feed RX6 "feed" 8 r_X6_feed (some .int) (vpi (fun (r : Int32) (h' : AH) => ∃ (mi' : Nat → Int32) (ma' : Nat → Nat → Int32), h' = (mH b mi' ma' ml) ∧ post r mi' ma')) (mH b mi ma ml) 0 0 0 [(0, va_rf (some (b 0))), (1, .int x1), (2, .int x2), (3, .int x3), (4, .int x4), (5, .int x5)] [] := by
  refine v_aload_n (q := 0) dX6_feed_0 rfl rfl ?_
  refine v_iconst dX6_feed_1 ic_0 ?_
  obtain ⟨mi_25, emi_25⟩ : ∃ z9 : Nat → Int32, z9 = upd mi 0 (nI 0) := ⟨_, rfl⟩
  replace hw := hw mi_25 emi_25
  refine vm_put hb 0 (Nat.le_of_ble_eq_true rfl) q1614 rfl rfl rfl dX6_feed_2 emi_25 rfl ?_
  refine v_aload_n (q := 0) dX6_feed_5 rfl rfl ?_
  refine vm_get hb 9 (Nat.le_of_ble_eq_true rfl) q1623 rfl dX6_feed_6 rfl ?_
  refine v_bipush dX6_feed_9 bp_20 ?_
  refine v_iadd dX6_feed_11 ?_
  refine v_sipush dX6_feed_12 sp_400 ?_
  obtain ⟨hw_28, hw_29⟩ := hw
  refine v_icmp_le (tgt := 25) dX6_feed_15 (by decide) (fun c_26 => ?_) (fun c_27 => ?_)
  · have hw := hw_28 c_26
    refine v_iconst dX6_feed_25 ic_0 ?_
    refine v_istore (lv1 := [(6, .int (nI 0)), (0, va_rf (some (b 0))), (1, .int x1), (2, .int x2), (3, .int x3), (4, .int x4), (5, .int x5)]) dX6_feed_26 (Nat.le_of_ble_eq_true rfl) rfl ?_
    obtain ⟨n_30, hw⟩ := hw
    refine v_sub [1, 2, 3, 4, 5, 6, 0] rfl ?_
    exact b_X6_feed_28 hb n_30 (nI 0) mi_25 ma hw
  · have hw := hw_29 c_27
    refine v_aload_n (q := 0) dX6_feed_18 rfl rfl ?_
    refine v_bipush dX6_feed_19 bp_m4 ?_
    refine v_callV q1737 q1739 qs53 q113 q1740 (ci := 7) rfl (mH_obj hb) n_X6_no ⟨Nat.le_of_ble_eq_true rfl, Nat.le_of_ble_eq_true rfl⟩ [.int (-4)] [] (met_X6_no hb hw) rfl (Nat.zero_le _) ⟨Nat.le_refl _, Nat.le_refl _⟩ dX6_feed_21 rfl (v_ki (fun z_31 h1 hv => ?_))
    clear hw
    obtain ⟨ma_32, rfl, hw⟩ := hv
    exact v_iret dX6_feed_24 rfl ⟨_, rfl, _, _, rfl, hw⟩
theorem met_X6_feed {post : (Int32) → (Nat → Int32) → (Nat → Nat → Int32) → Prop}   {x1 : Int32} {x2 : Int32} {x3 : Int32} {x4 : Int32} {x5 : Int32} {mi : Nat → Int32} {ma : Nat → Nat → Int32} {ml : Nat → Nat → Int64} (hb : mOK b)  (hw : w_X6_feed post  x1 x2 x3 x4 x5 mi ma ml) : Mt l E yX6_feed (ws_ yX6_feed cX6_feed 8 (some .int)) r_X6_feed [va_rf (some (b 0)), .int x1, .int x2, .int x3, .int x4, .int x5] (mH b mi ma ml) (vpi (fun (r : Int32) (h' : AH) => ∃ (mi' : Nat → Int32) (ma' : Nat → Nat → Int32), h' = (mH b mi' ma' ml) ∧ post r mi' ma')) := v_entry (by decide +kernel) (Nat.le_of_ble_eq_true rfl) rfl (fun _ => e_X6_feed hb hw)
/-! X6_see -/
abbrev r_X6_see : Room := { frames := 0, cells := 0, slots := 0, locals := 0 }
theorem n_X6_see : vdn yX6_see 1 := ⟨by decide +kernel, by decide +kernel, by decide +kernel⟩
def w_X6_see (post : (Int32) → Prop) (x1 : Int32) (mi : Nat → Int32) (ma : Nat → Nat → Int32) (ml : Nat → Nat → Int64) : Prop :=
 (((mi 12) ≤ x1 → (post (-1))) ∧ (¬ (mi 12) ≤ x1 → (vp_in x1 400 ∧ (post (ma 8 (x1).toNatClampNeg)))))
theorem e_X6_see {post : (Int32) → Prop}   {x1 : Int32} {mi : Nat → Int32} {ma : Nat → Nat → Int32} {ml : Nat → Nat → Int64} (hb : mOK b)  (hw : w_X6_see post  x1 mi ma ml) : VV l E X cX6_see RX6 "see" 2 r_X6_see (some .int) (vpi (fun (r : Int32) (h' : AH) => h' = (mH b mi ma ml) ∧ post r)) (mH b mi ma ml) 0 0 0 [(0, va_rf (some (b 0))), (1, .int x1)] [] := by
  refine v_iload_n (q := 1) dX6_see_0 rfl rfl ?_
  refine v_aload_n (q := 0) dX6_see_1 rfl rfl ?_
  refine vm_get hb 12 (Nat.le_of_ble_eq_true rfl) q1626 rfl dX6_see_2 rfl ?_
  obtain ⟨hw_3, hw_4⟩ := hw
  refine v_icmp_ge (tgt := 17) dX6_see_5 (by decide) (fun c_1 => ?_) (fun c_2 => ?_)
  · have hw := hw_3 c_1
    refine v_iconst dX6_see_17 ic_m1 ?_
    exact v_iret dX6_see_18 rfl ⟨_, rfl, rfl, hw⟩
  · have hw := hw_4 c_2
    refine v_aload_n (q := 0) dX6_see_8 rfl rfl ?_
    refine vm_get hb 8 (Nat.le_of_ble_eq_true rfl) q1622 rfl dX6_see_9 rfl ?_
    refine v_iload_n (q := 1) dX6_see_12 rfl rfl ?_
    obtain ⟨hi_5, hw⟩ := hw
    refine v_iald dX6_see_13 (mH_ar8 hb) hi_5 ?_
    refine v_goto (tgt := 18) dX6_see_14 (by decide) ?_
    exact v_iret dX6_see_18 rfl ⟨_, rfl, rfl, hw⟩
theorem met_X6_see {post : (Int32) → Prop}   {x1 : Int32} {mi : Nat → Int32} {ma : Nat → Nat → Int32} {ml : Nat → Nat → Int64} (hb : mOK b)  (hw : w_X6_see post  x1 mi ma ml) : Mt l E yX6_see (ws_ yX6_see cX6_see 2 (some .int)) r_X6_see [va_rf (some (b 0)), .int x1] (mH b mi ma ml) (vpi (fun (r : Int32) (h' : AH) => h' = (mH b mi ma ml) ∧ post r)) := v_entry (by decide +kernel) (Nat.le_of_ble_eq_true rfl) rfl (fun _ => e_X6_see hb hw)
/-! X6_isSmall -/
abbrev r_X6_isSmall : Room := { frames := 0, cells := 0, slots := 0, locals := 0 }
theorem n_X6_isSmall : vdn yX6_isSmall 1 := ⟨by decide +kernel, by decide +kernel, by decide +kernel⟩
def w_X6_isSmall (post : (Int32) → Prop) (x0 : Int32) : Prop :=
 ((x0 < (nI 97) → (post (nI 0))) ∧ (¬ x0 < (nI 97) → (((nI 122) < x0 → (post (nI 0))) ∧ (¬ (nI 122) < x0 → (post (nI 1))))))
theorem e_X6_isSmall {post : (Int32) → Prop}   {x0 : Int32} {h : AH}  (hw : w_X6_isSmall post  x0) : VV l E X cX6_isSmall RX6 "isSmall" 1 r_X6_isSmall (some .boolean) (vpi (fun (r : Int32) (h' : AH) => h' = h ∧ post r)) h 0 0 0 [(0, .int x0)] [] := by
  refine v_iload_n (q := 0) dX6_isSmall_0 rfl rfl ?_
  refine v_bipush dX6_isSmall_1 bp_97 ?_
  obtain ⟨hw_3, hw_4⟩ := hw
  refine v_icmp_lt (tgt := 16) dX6_isSmall_3 (by decide) (fun c_1 => ?_) (fun c_2 => ?_)
  · have hw := hw_3 c_1
    refine v_iconst dX6_isSmall_16 ic_0 ?_
    exact v_zret dX6_isSmall_17 rfl rfl ⟨_, rfl, rfl, hw⟩
  · have hw := hw_4 c_2
    refine v_iload_n (q := 0) dX6_isSmall_6 rfl rfl ?_
    refine v_bipush dX6_isSmall_7 bp_122 ?_
    obtain ⟨hw_7, hw_8⟩ := hw
    refine v_icmp_gt (tgt := 16) dX6_isSmall_9 (by decide) (fun c_5 => ?_) (fun c_6 => ?_)
    · have hw := hw_7 c_5
      refine v_iconst dX6_isSmall_16 ic_0 ?_
      exact v_zret dX6_isSmall_17 rfl rfl ⟨_, rfl, rfl, hw⟩
    · have hw := hw_8 c_6
      refine v_iconst dX6_isSmall_12 ic_1 ?_
      refine v_goto (tgt := 17) dX6_isSmall_13 (by decide) ?_
      exact v_zret dX6_isSmall_17 rfl rfl ⟨_, rfl, rfl, hw⟩
theorem met_X6_isSmall {post : (Int32) → Prop}   {x0 : Int32} {h : AH}  (hw : w_X6_isSmall post  x0) : Mt l E yX6_isSmall (ws_ yX6_isSmall cX6_isSmall 1 (some .boolean)) r_X6_isSmall [.int x0] h (vpi (fun (r : Int32) (h' : AH) => h' = h ∧ post r)) := v_entry (by decide +kernel) (Nat.le_of_ble_eq_true rfl) rfl (fun _ => e_X6_isSmall hw)
end WALK
