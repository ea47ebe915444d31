set_option maxRecDepth 100000
section WALK
variable {l : Launch} {E : VE} {X : VX} {b : Nat → Nat}
/-! X6_isThere -/
abbrev r_X6_isThere : Room := { frames := 0, cells := 0, slots := 0, locals := 0 }
theorem n_X6_isThere : vdn yX6_isThere 1 := ⟨by decide +kernel, by decide +kernel, by decide +kernel⟩
def w_X6_isThere (post : (Int32) → Prop) (x1 : Int32) (mi : Nat → Int32) (ma : Nat → Nat → Int32) (ml : Nat → Nat → Int64) : Prop :=
 ((x1 < 0 → (post (nI 0))) ∧ (¬ x1 < 0 → (vp_in (nI 547) 3372 ∧ (((ma 2 ((nI 547)).toNatClampNeg) ≤ x1 → (post (nI 0))) ∧ (¬ (ma 2 ((nI 547)).toNatClampNeg) ≤ x1 → (post (nI 1)))))))
theorem e_X6_isThere {post : (Int32) → Prop}   {x1 : Int32} {mi : Nat → Int32} {ma : Nat → Nat → Int32} {ml : Nat → Nat → Int64} (hb : mOK b)  (hw : w_X6_isThere post  x1 mi ma ml) : VV l E X cX6_isThere RX6 "isThere" 2 r_X6_isThere (some .boolean) (vpi (fun (r : Int32) (h' : AH) => h' = (mH b mi ma ml) ∧ post r)) (mH b mi ma ml) 0 0 0 [(0, va_rf (some (b 0))), (1, .int x1)] [] := by
  refine v_iload_n (q := 1) dX6_isThere_0 rfl rfl ?_
  obtain ⟨hw_3, hw_4⟩ := hw
  refine v_if_lt (tgt := 20) dX6_isThere_1 (by decide) (fun c_1 => ?_) (fun c_2 => ?_)
  · have hw := hw_3 c_1
    refine v_iconst dX6_isThere_20 ic_0 ?_
    exact v_zret dX6_isThere_21 rfl rfl ⟨_, rfl, rfl, hw⟩
  · have hw := hw_4 c_2
    refine v_iload_n (q := 1) dX6_isThere_4 rfl rfl ?_
    refine v_aload_n (q := 0) dX6_isThere_5 rfl rfl ?_
    refine vm_get hb 2 (Nat.le_of_ble_eq_true rfl) q1616 rfl dX6_isThere_6 rfl ?_
    refine v_sipush dX6_isThere_9 sp_547 ?_
    obtain ⟨hi_5, hw⟩ := hw
    refine v_iald dX6_isThere_12 (mH_ar2 hb) hi_5 ?_
    obtain ⟨hw_8, hw_9⟩ := hw
    refine v_icmp_ge (tgt := 20) dX6_isThere_13 (by decide) (fun c_6 => ?_) (fun c_7 => ?_)
    · have hw := hw_8 c_6
      refine v_iconst dX6_isThere_20 ic_0 ?_
      exact v_zret dX6_isThere_21 rfl rfl ⟨_, rfl, rfl, hw⟩
    · have hw := hw_9 c_7
      refine v_iconst dX6_isThere_16 ic_1 ?_
      refine v_goto (tgt := 21) dX6_isThere_17 (by decide) ?_
      exact v_zret dX6_isThere_21 rfl rfl ⟨_, rfl, rfl, hw⟩
theorem met_X6_isThere {post : (Int32) → Prop}   {x1 : Int32} {mi : Nat → Int32} {ma : Nat → Nat → Int32} {ml : Nat → Nat → Int64} (hb : mOK b)  (hw : w_X6_isThere post  x1 mi ma ml) : Mt l E yX6_isThere (ws_ yX6_isThere cX6_isThere 2 (some .boolean)) r_X6_isThere [va_rf (some (b 0)), .int x1] (mH b mi ma ml) (vpi (fun (r : Int32) (h' : AH) => h' = (mH b mi ma ml) ∧ post r)) := v_entry (by decide +kernel) (Nat.le_of_ble_eq_true rfl) rfl (fun _ => e_X6_isThere hb hw)
/-! X6_isBehind -/
abbrev r_X6_isBehind : Room := { frames := 0, cells := 0, slots := 0, locals := 0 }
theorem n_X6_isBehind : vdn yX6_isBehind 1 := ⟨by decide +kernel, by decide +kernel, by decide +kernel⟩
def w_X6_isBehind (post : (Int32) → Prop) (x1 : Int32) (mi : Nat → Int32) (ma : Nat → Nat → Int32) (ml : Nat → Nat → Int64) : Prop :=
 (vp_in ((nI 724) + x1) 2352 ∧ (((lg_cmp (ml 3 (((nI 724) + x1)).toNatClampNeg) (lN 0)) = 0 → (post (nI 0))) ∧ (¬ (lg_cmp (ml 3 (((nI 724) + x1)).toNatClampNeg) (lN 0)) = 0 → (vp_in ((nI 608) + x1) 3372 ∧ (vp_in (nI 161) 3372 ∧ (((ma 2 (((nI 608) + x1)).toNatClampNeg) ≤ (ma 2 ((nI 161)).toNatClampNeg) → (post (nI 0))) ∧ (¬ (ma 2 (((nI 608) + x1)).toNatClampNeg) ≤ (ma 2 ((nI 161)).toNatClampNeg) → (post (nI 1)))))))))
theorem e_X6_isBehind {post : (Int32) → Prop}   {x1 : Int32} {mi : Nat → Int32} {ma : Nat → Nat → Int32} {ml : Nat → Nat → Int64} (hb : mOK b)  (hw : w_X6_isBehind post  x1 mi ma ml) : VV l E X cX6_isBehind RX6 "isBehind" 2 r_X6_isBehind (some .boolean) (vpi (fun (r : Int32) (h' : AH) => h' = (mH b mi ma ml) ∧ post r)) (mH b mi ma ml) 0 0 0 [(0, va_rf (some (b 0))), (1, .int x1)] [] := by
  refine v_aload_n (q := 0) dX6_isBehind_0 rfl rfl ?_
  refine vm_get hb 3 (Nat.le_of_ble_eq_true rfl) q1617 rfl dX6_isBehind_1 rfl ?_
  refine v_sipush dX6_isBehind_4 sp_724 ?_
  refine v_iload_n (q := 1) dX6_isBehind_7 rfl rfl ?_
  refine v_iadd dX6_isBehind_8 ?_
  obtain ⟨hi_1, hw⟩ := hw
  refine v_lald dX6_isBehind_9 (mH_ar3 hb) hi_1 ?_
  refine v_lconst (v := lN 0) dX6_isBehind_10 rfl ?_
  refine v_lcmp dX6_isBehind_11 ?_
  obtain ⟨hw_4, hw_5⟩ := hw
  refine v_if_eq (tgt := 40) dX6_isBehind_12 (by decide) (fun c_2 => ?_) (fun c_3 => ?_)
  · have hw := hw_4 c_2
    refine v_iconst dX6_isBehind_40 ic_0 ?_
    exact v_zret dX6_isBehind_41 rfl rfl ⟨_, rfl, rfl, hw⟩
  · have hw := hw_5 c_3
    refine v_aload_n (q := 0) dX6_isBehind_15 rfl rfl ?_
    refine vm_get hb 2 (Nat.le_of_ble_eq_true rfl) q1616 rfl dX6_isBehind_16 rfl ?_
    refine v_sipush dX6_isBehind_19 sp_608 ?_
    refine v_iload_n (q := 1) dX6_isBehind_22 rfl rfl ?_
    refine v_iadd dX6_isBehind_23 ?_
    obtain ⟨hi_6, hw⟩ := hw
    refine v_iald dX6_isBehind_24 (mH_ar2 hb) hi_6 ?_
    refine v_aload_n (q := 0) dX6_isBehind_25 rfl rfl ?_
    refine vm_get hb 2 (Nat.le_of_ble_eq_true rfl) q1616 rfl dX6_isBehind_26 rfl ?_
    refine v_sipush dX6_isBehind_29 sp_161 ?_
    obtain ⟨hi_7, hw⟩ := hw
    refine v_iald dX6_isBehind_32 (mH_ar2 hb) hi_7 ?_
    obtain ⟨hw_10, hw_11⟩ := hw
    refine v_icmp_le (tgt := 40) dX6_isBehind_33 (by decide) (fun c_8 => ?_) (fun c_9 => ?_)
    · have hw := hw_10 c_8
      refine v_iconst dX6_isBehind_40 ic_0 ?_
      exact v_zret dX6_isBehind_41 rfl rfl ⟨_, rfl, rfl, hw⟩
    · have hw := hw_11 c_9
      refine v_iconst dX6_isBehind_36 ic_1 ?_
      refine v_goto (tgt := 41) dX6_isBehind_37 (by decide) ?_
      exact v_zret dX6_isBehind_41 rfl rfl ⟨_, rfl, rfl, hw⟩
theorem met_X6_isBehind {post : (Int32) → Prop}   {x1 : Int32} {mi : Nat → Int32} {ma : Nat → Nat → Int32} {ml : Nat → Nat → Int64} (hb : mOK b)  (hw : w_X6_isBehind post  x1 mi ma ml) : Mt l E yX6_isBehind (ws_ yX6_isBehind cX6_isBehind 2 (some .boolean)) r_X6_isBehind [va_rf (some (b 0)), .int x1] (mH b mi ma ml) (vpi (fun (r : Int32) (h' : AH) => h' = (mH b mi ma ml) ∧ post r)) := v_entry (by decide +kernel) (Nat.le_of_ble_eq_true rfl) rfl (fun _ => e_X6_isBehind hb hw)
/-! X6_isBack -/
abbrev r_X6_isBack : Room := { frames := 4, cells := 0, slots := 0, locals := 100 }
theorem n_X6_isBack : vdn yX6_isBack 1 := ⟨by decide +kernel, by decide +kernel, by decide +kernel⟩
def w_X6_isBack (post : (Int32) → (Nat → Nat → Int32) → Prop) (x1 : Int32) (mi : Nat → Int32) (ma : Nat → Nat → Int32) (ml : Nat → Nat → Int64) : Prop :=
 (vp_in ((nI 724) + x1) 2352 ∧ (∀ y_2 : Int64, y_2 = (ml 3 (((nI 724) + x1)).toNatClampNeg) → (w_X6_isBehind (fun (z_3 : Int32) => ((z_3 = 0 → (post (nI 0) ma)) ∧ (¬ z_3 = 0 → (w_X6_mostOfPrint (fun (z_8 : Int32) (ma_9 : Nat → Nat → Int32) => (vp_in (nI 248) 3372 ∧ ((z_8 < (ma_9 2 ((nI 248)).toNatClampNeg) → (post (nI 0) ma_9)) ∧ (¬ z_8 < (ma_9 2 ((nI 248)).toNatClampNeg) → (w_X6_mostOfSongs (fun (z_15 : Int32) (ma_16 : Nat → Nat → Int32) => (vp_in (nI 248) 3372 ∧ (((ma_16 2 ((nI 248)).toNatClampNeg) ≤ z_15 → (post (nI 0) ma_16)) ∧ (¬ (ma_16 2 ((nI 248)).toNatClampNeg) ≤ z_15 → (post (nI 1) ma_16))))) y_2 (nI 1) mi ma_9 ml))))) y_2 mi ma ml)))) x1 mi ma ml)))
theorem e_X6_isBack {post : (Int32) → (Nat → Nat → Int32) → Prop}   {x1 : Int32} {mi : Nat → Int32} {ma : Nat → Nat → Int32} {ml : Nat → Nat → Int64} (hb : mOK b)  (hw : w_X6_isBack post  x1 mi ma ml) : VV l E X cX6_isBack RX6 "isBack" 4 r_X6_isBack (some .boolean) (vpi (fun (r : Int32) (h' : AH) => ∃ (ma' : Nat → Nat → Int32), h' = (mH b mi ma' ml) ∧ post r ma')) (mH b mi ma ml) 0 0 0 [(0, va_rf (some (b 0))), (1, .int x1)] [] := by
  refine v_aload_n (q := 0) dX6_isBack_0 rfl rfl ?_
  refine vm_get hb 3 (Nat.le_of_ble_eq_true rfl) q1617 rfl dX6_isBack_1 rfl ?_
  refine v_sipush dX6_isBack_4 sp_724 ?_
  refine v_iload_n (q := 1) dX6_isBack_7 rfl rfl ?_
  refine v_iadd dX6_isBack_8 ?_
  obtain ⟨hi_1, hw⟩ := hw
  refine v_lald dX6_isBack_9 (mH_ar3 hb) hi_1 ?_
  refine v_topl (fun y_2 e_2 => ?_)
  replace hw := hw y_2 e_2
  refine v_lstore_n (lv1 := [(2, .long y_2), (0, va_rf (some (b 0))), (1, .int x1)]) dX6_isBack_10 rfl (Nat.le_of_ble_eq_true rfl) rfl ?_
  refine v_aload_n (q := 1) dX6_isBack_11 rfl rfl ?_
  refine v_iload_n (q := 2) dX6_isBack_12 rfl rfl ?_
  refine v_callV q2034 q2036 qs93 q113 q2037 (ci := 7) rfl (mH_obj hb) n_X6_isBehind ⟨Nat.le_of_ble_eq_true rfl, Nat.le_of_ble_eq_true rfl⟩ [.int x1] [] (met_X6_isBehind hb hw) rfl (Nat.zero_le _) ⟨Nat.le_refl _, Nat.le_refl _⟩ dX6_isBack_13 rfl (v_ki (fun z_3 h1 hv => ?_))
  clear hw
  obtain ⟨e9, hw⟩ := hv
  refine v_heap e9 ?_
  clear e9
  obtain ⟨hw_6, hw_7⟩ := hw
  refine v_if_eq (tgt := 56) dX6_isBack_16 (by decide) (fun c_4 => ?_) (fun c_5 => ?_)
  · have hw := hw_6 c_4
    refine v_iconst dX6_isBack_56 ic_0 ?_
    exact v_zret dX6_isBack_57 rfl rfl ⟨_, rfl, _, rfl, hw⟩
  · have hw := hw_7 c_5
    refine v_aload_n (q := 1) dX6_isBack_19 rfl rfl ?_
    refine v_lload_n (q := 0) dX6_isBack_20 rfl rfl ?_
    refine v_callV q1939 q1941 qs85 q113 q1942 (ci := 7) rfl (mH_obj hb) n_X6_mostOfPrint ⟨Nat.le_of_ble_eq_true rfl, Nat.le_of_ble_eq_true rfl⟩ [.long y_2] [] (met_X6_mostOfPrint hb hw) rfl (Nat.zero_le _) ⟨Nat.le_refl _, Nat.le_refl _⟩ dX6_isBack_21 rfl (v_ki (fun z_8 h1 hv => ?_))
    clear hw
    obtain ⟨ma_9, rfl, hw⟩ := hv
    refine v_aload_n (q := 1) dX6_isBack_24 rfl rfl ?_
    refine vm_get hb 2 (Nat.le_of_ble_eq_true rfl) q1616 rfl dX6_isBack_25 rfl ?_
    refine v_sipush dX6_isBack_28 sp_248 ?_
    obtain ⟨hi_10, hw⟩ := hw
    refine v_iald dX6_isBack_31 (mH_ar2 hb) hi_10 ?_
    obtain ⟨hw_13, hw_14⟩ := hw
    refine v_icmp_lt (tgt := 56) dX6_isBack_32 (by decide) (fun c_11 => ?_) (fun c_12 => ?_)
    · have hw := hw_13 c_11
      refine v_iconst dX6_isBack_56 ic_0 ?_
      exact v_zret dX6_isBack_57 rfl rfl ⟨_, rfl, _, rfl, hw⟩
    · have hw := hw_14 c_12
      refine v_aload_n (q := 1) dX6_isBack_35 rfl rfl ?_
      refine v_lload_n (q := 0) dX6_isBack_36 rfl rfl ?_
      refine v_iconst dX6_isBack_37 ic_1 ?_
      refine v_callV q1935 q1937 qs84 q113 q1938 (ci := 7) rfl (mH_obj hb) n_X6_mostOfSongs ⟨Nat.le_of_ble_eq_true rfl, Nat.le_of_ble_eq_true rfl⟩ [.long y_2, .int (nI 1)] [] (met_X6_mostOfSongs hb hw) rfl (Nat.zero_le _) ⟨Nat.le_refl _, Nat.le_refl _⟩ dX6_isBack_38 rfl (v_ki (fun z_15 h1 hv => ?_))
      clear hw
      obtain ⟨ma_16, rfl, hw⟩ := hv
      refine v_aload_n (q := 1) dX6_isBack_41 rfl rfl ?_
      refine vm_get hb 2 (Nat.le_of_ble_eq_true rfl) q1616 rfl dX6_isBack_42 rfl ?_
      refine v_sipush dX6_isBack_45 sp_248 ?_
      obtain ⟨hi_17, hw⟩ := hw
      refine v_iald dX6_isBack_48 (mH_ar2 hb) hi_17 ?_
      obtain ⟨hw_20, hw_21⟩ := hw
      refine v_icmp_ge (tgt := 56) dX6_isBack_49 (by decide) (fun c_18 => ?_) (fun c_19 => ?_)
      · have hw := hw_20 c_18
        refine v_iconst dX6_isBack_56 ic_0 ?_
        exact v_zret dX6_isBack_57 rfl rfl ⟨_, rfl, _, rfl, hw⟩
      · have hw := hw_21 c_19
        refine v_iconst dX6_isBack_52 ic_1 ?_
        refine v_goto (tgt := 57) dX6_isBack_53 (by decide) ?_
        exact v_zret dX6_isBack_57 rfl rfl ⟨_, rfl, _, rfl, hw⟩
theorem met_X6_isBack {post : (Int32) → (Nat → Nat → Int32) → Prop}   {x1 : Int32} {mi : Nat → Int32} {ma : Nat → Nat → Int32} {ml : Nat → Nat → Int64} (hb : mOK b)  (hw : w_X6_isBack post  x1 mi ma ml) : Mt l E yX6_isBack (ws_ yX6_isBack cX6_isBack 4 (some .boolean)) r_X6_isBack [va_rf (some (b 0)), .int x1] (mH b mi ma ml) (vpi (fun (r : Int32) (h' : AH) => ∃ (ma' : Nat → Nat → Int32), h' = (mH b mi ma' ml) ∧ post r ma')) := v_entry (by decide +kernel) (Nat.le_of_ble_eq_true rfl) rfl (fun _ => e_X6_isBack hb hw)
/-! X6_back -/
abbrev r_X6_back : Room := { frames := 5, cells := 0, slots := 0, locals := 123 }
theorem n_X6_back : vdn yX6_back 1 := ⟨by decide +kernel, by decide +kernel, by decide +kernel⟩
def w_X6_back (post : (Int32) → (Nat → Int32) → (Nat → Nat → Int32) → Prop) (x1 : Int32) (mi : Nat → Int32) (ma : Nat → Nat → Int32) (ml : Nat → Nat → Int64) : Prop :=
 (∀ mi_1 : Nat → Int32, mi_1 = upd mi 0 (nI 0) → (w_X6_isThere (fun (z_2 : Int32) => ((¬ z_2 = 0 → (w_X6_isBack (fun (z_7 : Int32) (ma_8 : Nat → Nat → Int32) => ((z_7 = 0 → (post (nI 0) mi_1 ma_8)) ∧ (¬ z_7 = 0 → (post (nI 1) mi_1 ma_8)))) x1 mi_1 ma ml)) ∧ (z_2 = 0 → (w_X6_no (fun (z_13 : Int32) (ma_14 : Nat → Nat → Int32) => (post z_13 mi_1 ma_14)) (-2) mi_1 ma ml)))) x1 mi_1 ma ml))
theorem e_X6_back {post : (Int32) → (Nat → Int32) → (Nat → Nat → Int32) → Prop}   {x1 : Int32} {mi : Nat → Int32} {ma : Nat → Nat → Int32} {ml : Nat → Nat → Int64} (hb : mOK b)  (hw : w_X6_back post  x1 mi ma ml) : VV l E X cX6_back RX6 "back" 2 r_X6_back (some .int) (vpi (fun (r : Int32) (h' : AH) => ∃ (mi' : Nat → Int32) (ma' : Nat → Nat → Int32), h' = (mH b mi' ma' ml) ∧ post r mi' ma')) (mH b mi ma ml) 0 0 0 [(0, va_rf (some (b 0))), (1, .int x1)] [] := by
  refine v_aload_n (q := 0) dX6_back_0 rfl rfl ?_
  refine v_iconst dX6_back_1 ic_0 ?_
  obtain ⟨mi_1, emi_1⟩ : ∃ z9 : Nat → Int32, z9 = upd mi 0 (nI 0) := ⟨_, rfl⟩
  replace hw := hw mi_1 emi_1
  refine vm_put hb 0 (Nat.le_of_ble_eq_true rfl) q1614 rfl rfl rfl dX6_back_2 emi_1 rfl ?_
  refine v_aload_n (q := 0) dX6_back_5 rfl rfl ?_
  refine v_iload_n (q := 1) dX6_back_6 rfl rfl ?_
  refine v_callV q2026 q2028 qs91 q113 q2029 (ci := 7) rfl (mH_obj hb) n_X6_isThere ⟨Nat.le_of_ble_eq_true rfl, Nat.le_of_ble_eq_true rfl⟩ [.int x1] [] (met_X6_isThere hb hw) rfl (Nat.zero_le _) ⟨Nat.le_refl _, Nat.le_refl _⟩ dX6_back_7 rfl (v_ki (fun z_2 h1 hv => ?_))
  clear hw
  obtain ⟨e9, hw⟩ := hv
  refine v_heap e9 ?_
  clear e9
  obtain ⟨hw_5, hw_6⟩ := hw
  refine v_if_ne (tgt := 20) dX6_back_10 (by decide) (fun c_3 => ?_) (fun c_4 => ?_)
  · have hw := hw_5 c_3
    refine v_aload_n (q := 0) dX6_back_20 rfl rfl ?_
    refine v_iload_n (q := 1) dX6_back_21 rfl rfl ?_
    refine v_callV q2030 q2032 qs92 q113 q2033 (ci := 7) rfl (mH_obj hb) n_X6_isBack ⟨Nat.le_of_ble_eq_true rfl, Nat.le_of_ble_eq_true rfl⟩ [.int x1] [] (met_X6_isBack hb hw) rfl (Nat.zero_le _) ⟨Nat.le_refl _, Nat.le_refl _⟩ dX6_back_22 rfl (v_ki (fun z_7 h1 hv => ?_))
    clear hw
    obtain ⟨ma_8, rfl, hw⟩ := hv
    obtain ⟨hw_11, hw_12⟩ := hw
    refine v_if_eq (tgt := 32) dX6_back_25 (by decide) (fun c_9 => ?_) (fun c_10 => ?_)
    · have hw := hw_11 c_9
      refine v_iconst dX6_back_32 ic_0 ?_
      exact v_iret dX6_back_33 rfl ⟨_, rfl, _, _, rfl, hw⟩
    · have hw := hw_12 c_10
      refine v_iconst dX6_back_28 ic_1 ?_
      refine v_goto (tgt := 33) dX6_back_29 (by decide) ?_
      exact v_iret dX6_back_33 rfl ⟨_, rfl, _, _, rfl, hw⟩
  · have hw := hw_6 c_4
    refine v_aload_n (q := 0) dX6_back_13 rfl rfl ?_
    refine v_bipush dX6_back_14 bp_m2 ?_
    refine v_callV q1737 q1739 qs53 q113 q1740 (ci := 7) rfl (mH_obj hb) n_X6_no ⟨Nat.le_of_ble_eq_true rfl, Nat.le_of_ble_eq_true rfl⟩ [.int (-2)] [] (met_X6_no hb hw) rfl (Nat.zero_le _) ⟨Nat.le_refl _, Nat.le_refl _⟩ dX6_back_16 rfl (v_ki (fun z_13 h1 hv => ?_))
    clear hw
    obtain ⟨ma_14, rfl, hw⟩ := hv
    exact v_iret dX6_back_19 rfl ⟨_, rfl, _, _, rfl, hw⟩
theorem met_X6_back {post : (Int32) → (Nat → Int32) → (Nat → Nat → Int32) → Prop}   {x1 : Int32} {mi : Nat → Int32} {ma : Nat → Nat → Int32} {ml : Nat → Nat → Int64} (hb : mOK b)  (hw : w_X6_back post  x1 mi ma ml) : Mt l E yX6_back (ws_ yX6_back cX6_back 2 (some .int)) r_X6_back [va_rf (some (b 0)), .int x1] (mH b mi ma ml) (vpi (fun (r : Int32) (h' : AH) => ∃ (mi' : Nat → Int32) (ma' : Nat → Nat → Int32), h' = (mH b mi' ma' ml) ∧ post r mi' ma')) := v_entry (by decide +kernel) (Nat.le_of_ble_eq_true rfl) rfl (fun _ => e_X6_back hb hw)
/-! X6_backOdds -/
abbrev r_X6_backOdds : Room := { frames := 4, cells := 0, slots := 0, locals := 100 }
theorem n_X6_backOdds : vdn yX6_backOdds 2 := ⟨by decide +kernel, by decide +kernel, by decide +kernel⟩
def w_X6_backOdds_23 (post : (Int32) → (Nat → Int32) → (Nat → Nat → Int32) → Prop) (x1 : Int32) (x2 : Int32) (ml : Nat → Nat → Int64) (mi : Nat → Int32) (ma : Nat → Nat → Int32) : Prop :=
 (w_X6_no (fun (z_1 : Int32) (ma_2 : Nat → Nat → Int32) => (post z_1 mi ma_2)) (-2) mi ma ml)
def w_X6_backOdds_112 (post : (Int32) → (Nat → Int32) → (Nat → Nat → Int32) → Prop) (x1 : Int32) (x2 : Int32) (ml : Nat → Nat → Int64) (s0 : Int64) (s1 : Int64) (mi : Nat → Int32) (ma : Nat → Nat → Int32) : Prop :=
 (w_X6_part (fun (y_3 : Int64) => (post ((y_3).toInt32) mi ma)) s1 s0 x2)
def w_X6_backOdds_81 (post : (Int32) → (Nat → Int32) → (Nat → Nat → Int32) → Prop) (x1 : Int32) (x2 : Int32) (ml : Nat → Nat → Int64) (x4 : Int32) (s0 : Int32) (mi : Nat → Int32) (ma : Nat → Nat → Int32) : Prop :=
 (vp_in ((nI 668) + x1) 3372 ∧ ((0 ≤ x4 → (w_X6_backOdds_112 post x1 x2 ml ((lN 10) * ((x4).toInt64)) (((s0).toInt64) * ((((ma 2 (((nI 668) + x1)).toNatClampNeg)).toInt64) + (lN 1))) mi ma)) ∧ (¬ 0 ≤ x4 → (w_X6_backOdds_112 post x1 x2 ml (lN 0) (((s0).toInt64) * ((((ma 2 (((nI 668) + x1)).toNatClampNeg)).toInt64) + (lN 1))) mi ma))))
def w_X6_backOdds (post : (Int32) → (Nat → Int32) → (Nat → Nat → Int32) → Prop) (x1 : Int32) (x2 : Int32) (mi : Nat → Int32) (ma : Nat → Nat → Int32) (ml : Nat → Nat → Int64) : Prop :=
 (∀ mi_9 : Nat → Int32, mi_9 = upd mi 0 (nI 0) → (w_X6_isThere (fun (z_10 : Int32) => ((z_10 = 0 → (w_X6_backOdds_23 post x1 x2 ml mi_9 ma)) ∧ (¬ z_10 = 0 → (w_X6_within (fun (z_15 : Int32) => ((¬ z_15 = 0 → (w_X6_isBehind (fun (z_20 : Int32) => ((¬ z_20 = 0 → (vp_in ((nI 724) + x1) 2352 ∧ (w_X6_mostOfPrint (fun (z_26 : Int32) (ma_27 : Nat → Nat → Int32) => (vp_in ((nI 724) + x1) 2352 ∧ (w_X6_mostOfSongs (fun (z_29 : Int32) (ma_30 : Nat → Nat → Int32) => ((0 ≤ z_26 → (w_X6_backOdds_81 post x1 x2 ml z_29 z_26 mi_9 ma_30)) ∧ (¬ 0 ≤ z_26 → (w_X6_backOdds_81 post x1 x2 ml z_29 (nI 0) mi_9 ma_30)))) (ml 3 (((nI 724) + x1)).toNatClampNeg) (nI 1) mi_9 ma_27 ml))) (ml 3 (((nI 724) + x1)).toNatClampNeg) mi_9 ma ml))) ∧ (z_20 = 0 → (post x2 mi_9 ma)))) x1 mi_9 ma ml)) ∧ (z_15 = 0 → (w_X6_backOdds_23 post x1 x2 ml mi_9 ma)))) ((x2).toInt64) (lN 0) (lN 1))))) x1 mi_9 ma ml))
theorem b_X6_backOdds_23 {post : (Int32) → (Nat → Int32) → (Nat → Nat → Int32) → Prop}   {x1 : Int32} {x2 : Int32} {ml : Nat → Nat → Int64}  (hb : mOK b)   (mi : Nat → Int32) (ma : Nat → Nat → Int32) (hw : w_X6_backOdds_23 post x1 x2 ml mi ma) : VV l E X cX6_backOdds RX6 "backOdds" 5 r_X6_backOdds (some .int) (vpi (fun (r : Int32) (h' : AH) => ∃ (mi' : Nat → Int32) (ma' : Nat → Nat → Int32), h' = (mH b mi' ma' ml) ∧ post r mi' ma')) (mH b mi ma ml) 0 0 23 [(0, va_rf (some (b 0))), (1, .int x1), (2, .int x2)] [] := by
  refine v_aload_n (q := 0) dX6_backOdds_23 rfl rfl ?_
  refine v_bipush dX6_backOdds_24 bp_m2 ?_
  refine v_callV q1737 q1739 qs53 q113 q1740 (ci := 7) rfl (mH_obj hb) n_X6_no ⟨Nat.le_of_ble_eq_true rfl, Nat.le_of_ble_eq_true rfl⟩ [.int (-2)] [] (met_X6_no hb hw) rfl (Nat.zero_le _) ⟨Nat.le_refl _, Nat.le_refl _⟩ dX6_backOdds_26 rfl (v_ki (fun z_1 h1 hv => ?_))
  clear hw
  obtain ⟨ma_2, rfl, hw⟩ := hv
  exact v_iret dX6_backOdds_29 rfl ⟨_, rfl, _, _, rfl, hw⟩
theorem b_X6_backOdds_112 {post : (Int32) → (Nat → Int32) → (Nat → Nat → Int32) → Prop}   {x1 : Int32} {x2 : Int32} {ml : Nat → Nat → Int64}  (hb : mOK b)   (s0 : Int64) (s1 : Int64) (mi : Nat → Int32) (ma : Nat → Nat → Int32) (hw : w_X6_backOdds_112 post x1 x2 ml s0 s1 mi ma) : VV l E X cX6_backOdds RX6 "backOdds" 5 r_X6_backOdds (some .int) (vpi (fun (r : Int32) (h' : AH) => ∃ (mi' : Nat → Int32) (ma' : Nat → Nat → Int32), h' = (mH b mi' ma' ml) ∧ post r mi' ma')) (mH b mi ma ml) 0 0 112 [(0, va_rf (some (b 0))), (1, .int x1), (2, .int x2)] [.long s0, .long s1] := by
  refine v_iload_n (q := 2) dX6_backOdds_112 rfl rfl ?_
  refine v_callS q1963 q1964 q113 q1965 n_X6_part ⟨Nat.le_of_ble_eq_true rfl, Nat.le_of_ble_eq_true rfl⟩ [.long s1, .long s0, .int x2] [] (met_X6_part hw) rfl (Nat.zero_le _) ⟨Nat.le_refl _, Nat.le_refl _⟩ dX6_backOdds_113 rfl (v_kl (fun y_3 h1 hv => ?_))
  clear hw
  obtain ⟨e9, hw⟩ := hv
  refine v_heap e9 ?_
  clear e9
  refine v_l2i dX6_backOdds_116 ?_
  exact v_iret dX6_backOdds_117 rfl ⟨_, rfl, _, _, rfl, hw⟩
theorem b_X6_backOdds_81 {post : (Int32) → (Nat → Int32) → (Nat → Nat → Int32) → Prop}   {x1 : Int32} {x2 : Int32} {ml : Nat → Nat → Int64}  (hb : mOK b)   (x4 : Int32) (s0 : Int32) (mi : Nat → Int32) (ma : Nat → Nat → Int32) (hw : w_X6_backOdds_81 post x1 x2 ml x4 s0 mi ma) : VV l E X cX6_backOdds RX6 "backOdds" 5 r_X6_backOdds (some .int) (vpi (fun (r : Int32) (h' : AH) => ∃ (mi' : Nat → Int32) (ma' : Nat → Nat → Int32), h' = (mH b mi' ma' ml) ∧ post r mi' ma')) (mH b mi ma ml) 0 0 81 [(0, va_rf (some (b 0))), (1, .int x1), (2, .int x2), (4, .int x4)] [.int s0] := by
  refine v_i2l dX6_backOdds_81 ?_
  refine v_aload_n (q := 0) dX6_backOdds_82 rfl rfl ?_
  refine vm_get hb 2 (Nat.le_of_ble_eq_true rfl) q1616 rfl dX6_backOdds_83 rfl ?_
  refine v_sipush dX6_backOdds_86 sp_668 ?_
  refine v_iload_n (q := 1) dX6_backOdds_89 rfl rfl ?_
  refine v_iadd dX6_backOdds_90 ?_
  obtain ⟨hi_4, hw⟩ := hw
  refine v_iald dX6_backOdds_91 (mH_ar2 hb) hi_4 ?_
  refine v_i2l dX6_backOdds_92 ?_
  refine v_lconst (v := lN 1) dX6_backOdds_93 rfl ?_
  refine v_ladd dX6_backOdds_94 ?_
  refine v_lmul dX6_backOdds_95 ?_
  refine v_iload (q := 3) dX6_backOdds_96 rfl ?_
  obtain ⟨hw_7, hw_8⟩ := hw
  refine v_if_ge (tgt := 105) dX6_backOdds_98 (by decide) (fun c_5 => ?_) (fun c_6 => ?_)
  · have hw := hw_7 c_5
    refine v_ldc2 (v := (lN 10)) dX6_backOdds_105 q2042 ?_
    refine v_iload (q := 3) dX6_backOdds_108 rfl ?_
    refine v_i2l dX6_backOdds_110 ?_
    refine v_lmul dX6_backOdds_111 ?_
    refine v_sub [0, 1, 2] rfl ?_
    exact b_X6_backOdds_112 hb ((lN 10) * ((x4).toInt64)) (((s0).toInt64) * ((((ma 2 (((nI 668) + x1)).toNatClampNeg)).toInt64) + (lN 1))) mi ma hw
  · have hw := hw_8 c_6
    refine v_lconst (v := lN 0) dX6_backOdds_101 rfl ?_
    refine v_goto (tgt := 112) dX6_backOdds_102 (by decide) ?_
    refine v_sub [0, 1, 2] rfl ?_
    exact b_X6_backOdds_112 hb (lN 0) (((s0).toInt64) * ((((ma 2 (((nI 668) + x1)).toNatClampNeg)).toInt64) + (lN 1))) mi ma hw
theorem e_X6_backOdds {post : (Int32) → (Nat → Int32) → (Nat → Nat → Int32) → Prop}   {x1 : Int32} {x2 : Int32} {mi : Nat → Int32} {ma : Nat → Nat → Int32} {ml : Nat → Nat → Int64} (hb : mOK b)  (hw : w_X6_backOdds post  x1 x2 mi ma ml) : VV l E X cX6_backOdds RX6 "backOdds" 5 r_X6_backOdds (some .int) (vpi (fun (r : Int32) (h' : AH) => ∃ (mi' : Nat → Int32) (ma' : Nat → Nat → Int32), h' = (mH b mi' ma' ml) ∧ post r mi' ma')) (mH b mi ma ml) 0 0 0 [(0, va_rf (some (b 0))), (1, .int x1), (2, .int x2)] [] := by
  refine v_aload_n (q := 0) dX6_backOdds_0 rfl rfl ?_
  refine v_iconst dX6_backOdds_1 ic_0 ?_
  obtain ⟨mi_9, emi_9⟩ : ∃ z9 : Nat → Int32, z9 = upd mi 0 (nI 0) := ⟨_, rfl⟩
  replace hw := hw mi_9 emi_9
  refine vm_put hb 0 (Nat.le_of_ble_eq_true rfl) q1614 rfl rfl rfl dX6_backOdds_2 emi_9 rfl ?_
  refine v_aload_n (q := 0) dX6_backOdds_5 rfl rfl ?_
  refine v_iload_n (q := 1) dX6_backOdds_6 rfl rfl ?_
  refine v_callV q2026 q2028 qs91 q113 q2029 (ci := 7) rfl (mH_obj hb) n_X6_isThere ⟨Nat.le_of_ble_eq_true rfl, Nat.le_of_ble_eq_true rfl⟩ [.int x1] [] (met_X6_isThere hb hw) rfl (Nat.zero_le _) ⟨Nat.le_refl _, Nat.le_refl _⟩ dX6_backOdds_7 rfl (v_ki (fun z_10 h1 hv => ?_))
  clear hw
  obtain ⟨e9, hw⟩ := hv
  refine v_heap e9 ?_
  clear e9
  obtain ⟨hw_13, hw_14⟩ := hw
  refine v_if_eq (tgt := 23) dX6_backOdds_10 (by decide) (fun c_11 => ?_) (fun c_12 => ?_)
  · have hw := hw_13 c_11
    refine v_sub [0, 1, 2] rfl ?_
    exact b_X6_backOdds_23 hb mi_9 ma hw
  · have hw := hw_14 c_12
    refine v_iload_n (q := 2) dX6_backOdds_13 rfl rfl ?_
    refine v_i2l dX6_backOdds_14 ?_
    refine v_lconst (v := lN 0) dX6_backOdds_15 rfl ?_
    refine v_lconst (v := lN 1) dX6_backOdds_16 rfl ?_
    refine v_callS q1734 q1735 q113 q1736 n_X6_within ⟨Nat.le_of_ble_eq_true rfl, Nat.le_of_ble_eq_true rfl⟩ [.long ((x2).toInt64), .long (lN 0), .long (lN 1)] [] (met_X6_within hw) rfl (Nat.zero_le _) ⟨Nat.le_refl _, Nat.le_refl _⟩ dX6_backOdds_17 rfl (v_ki (fun z_15 h1 hv => ?_))
    clear hw
    obtain ⟨e9, hw⟩ := hv
    refine v_heap e9 ?_
    clear e9
    obtain ⟨hw_18, hw_19⟩ := hw
    refine v_if_ne (tgt := 30) dX6_backOdds_20 (by decide) (fun c_16 => ?_) (fun c_17 => ?_)
    · have hw := hw_18 c_16
      refine v_aload_n (q := 0) dX6_backOdds_30 rfl rfl ?_
      refine v_iload_n (q := 1) dX6_backOdds_31 rfl rfl ?_
      refine v_callV q2034 q2036 qs93 q113 q2037 (ci := 7) rfl (mH_obj hb) n_X6_isBehind ⟨Nat.le_of_ble_eq_true rfl, Nat.le_of_ble_eq_true rfl⟩ [.int x1] [] (met_X6_isBehind hb hw) rfl (Nat.zero_le _) ⟨Nat.le_refl _, Nat.le_refl _⟩ dX6_backOdds_32 rfl (v_ki (fun z_20 h1 hv => ?_))
      clear hw
      obtain ⟨e9, hw⟩ := hv
      refine v_heap e9 ?_
      clear e9
      obtain ⟨hw_23, hw_24⟩ := hw
      refine v_if_ne (tgt := 40) dX6_backOdds_35 (by decide) (fun c_21 => ?_) (fun c_22 => ?_)
      · have hw := hw_23 c_21
        refine v_aload_n (q := 0) dX6_backOdds_40 rfl rfl ?_
        refine v_aload_n (q := 0) dX6_backOdds_41 rfl rfl ?_
        refine vm_get hb 3 (Nat.le_of_ble_eq_true rfl) q1617 rfl dX6_backOdds_42 rfl ?_
        refine v_sipush dX6_backOdds_45 sp_724 ?_
        refine v_iload_n (q := 1) dX6_backOdds_48 rfl rfl ?_
        refine v_iadd dX6_backOdds_49 ?_
        obtain ⟨hi_25, hw⟩ := hw
        refine v_lald dX6_backOdds_50 (mH_ar3 hb) hi_25 ?_
        refine v_callV q1939 q1941 qs85 q113 q1942 (ci := 7) rfl (mH_obj hb) n_X6_mostOfPrint ⟨Nat.le_of_ble_eq_true rfl, Nat.le_of_ble_eq_true rfl⟩ [.long (ml 3 (((nI 724) + x1)).toNatClampNeg)] [] (met_X6_mostOfPrint hb hw) rfl (Nat.zero_le _) ⟨Nat.le_refl _, Nat.le_refl _⟩ dX6_backOdds_51 rfl (v_ki (fun z_26 h1 hv => ?_))
        clear hw
        obtain ⟨ma_27, rfl, hw⟩ := hv
        refine v_istore_n (lv1 := [(3, .int z_26), (0, va_rf (some (b 0))), (1, .int x1), (2, .int x2)]) dX6_backOdds_54 rfl (Nat.le_of_ble_eq_true rfl) rfl ?_
        refine v_aload_n (q := 1) dX6_backOdds_55 rfl rfl ?_
        refine v_aload_n (q := 1) dX6_backOdds_56 rfl rfl ?_
        refine vm_get hb 3 (Nat.le_of_ble_eq_true rfl) q1617 rfl dX6_backOdds_57 rfl ?_
        refine v_sipush dX6_backOdds_60 sp_724 ?_
        refine v_iload_n (q := 2) dX6_backOdds_63 rfl rfl ?_
        refine v_iadd dX6_backOdds_64 ?_
        obtain ⟨hi_28, hw⟩ := hw
        refine v_lald dX6_backOdds_65 (mH_ar3 hb) hi_28 ?_
        refine v_iconst dX6_backOdds_66 ic_1 ?_
        refine v_callV q1935 q1937 qs84 q113 q1938 (ci := 7) rfl (mH_obj hb) n_X6_mostOfSongs ⟨Nat.le_of_ble_eq_true rfl, Nat.le_of_ble_eq_true rfl⟩ [.long (ml 3 (((nI 724) + x1)).toNatClampNeg), .int (nI 1)] [] (met_X6_mostOfSongs hb hw) rfl (Nat.zero_le _) ⟨Nat.le_refl _, Nat.le_refl _⟩ dX6_backOdds_67 rfl (v_ki (fun z_29 h1 hv => ?_))
        clear hw
        obtain ⟨ma_30, rfl, hw⟩ := hv
        refine v_istore (lv1 := [(4, .int z_29), (3, .int z_26), (0, va_rf (some (b 0))), (1, .int x1), (2, .int x2)]) dX6_backOdds_70 (Nat.le_of_ble_eq_true rfl) rfl ?_
        refine v_iload_n (q := 1) dX6_backOdds_72 rfl rfl ?_
        obtain ⟨hw_33, hw_34⟩ := hw
        refine v_if_ge (tgt := 80) dX6_backOdds_73 (by decide) (fun c_31 => ?_) (fun c_32 => ?_)
        · have hw := hw_33 c_31
          refine v_iload_n (q := 1) dX6_backOdds_80 rfl rfl ?_
          refine v_sub [2, 3, 4, 0] rfl ?_
          exact b_X6_backOdds_81 hb z_29 z_26 mi_9 ma_30 hw
        · have hw := hw_34 c_32
          refine v_iconst dX6_backOdds_76 ic_0 ?_
          refine v_goto (tgt := 81) dX6_backOdds_77 (by decide) ?_
          refine v_sub [2, 3, 4, 0] rfl ?_
          exact b_X6_backOdds_81 hb z_29 (nI 0) mi_9 ma_30 hw
      · have hw := hw_24 c_22
        refine v_iload_n (q := 2) dX6_backOdds_38 rfl rfl ?_
        exact v_iret dX6_backOdds_39 rfl ⟨_, rfl, _, _, rfl, hw⟩
    · have hw := hw_19 c_17
      refine v_sub [0, 1, 2] rfl ?_
      exact b_X6_backOdds_23 hb mi_9 ma hw
theorem met_X6_backOdds {post : (Int32) → (Nat → Int32) → (Nat → Nat → Int32) → Prop}   {x1 : Int32} {x2 : Int32} {mi : Nat → Int32} {ma : Nat → Nat → Int32} {ml : Nat → Nat → Int64} (hb : mOK b)  (hw : w_X6_backOdds post  x1 x2 mi ma ml) : Mt l E yX6_backOdds (ws_ yX6_backOdds cX6_backOdds 5 (some .int)) r_X6_backOdds [va_rf (some (b 0)), .int x1, .int x2] (mH b mi ma ml) (vpi (fun (r : Int32) (h' : AH) => ∃ (mi' : Nat → Int32) (ma' : Nat → Nat → Int32), h' = (mH b mi' ma' ml) ∧ post r mi' ma')) := v_entry (by decide +kernel) (Nat.le_of_ble_eq_true rfl) rfl (fun _ => e_X6_backOdds hb hw)
/-! X6_parted -/
abbrev r_X6_parted : Room := { frames := 5, cells := 0, slots := 0, locals := 123 }
theorem n_X6_parted : vdn yX6_parted 2 := ⟨by decide +kernel, by decide +kernel, by decide +kernel⟩
def w_X6_parted_103 (post : (Int32) → (Nat → Int32) → (Nat → Nat → Int32) → Prop) (k27 : (Int32) → (Int32) → (Nat → Int32) → (Nat → Nat → Int32) → Prop) (x1 : Int32) (x2 : Int32) (ml : Nat → Nat → Int64) (x3 : Int32) (x4 : Int32) (mi : Nat → Int32) (ma : Nat → Nat → Int32) : Prop :=
 (∀ z_1 : Int32, z_1 = x4 + (nI 1) → (k27 x3 z_1 mi ma))
def w_X6_parted_74 (post : (Int32) → (Nat → Int32) → (Nat → Nat → Int32) → Prop) (k27 : (Int32) → (Int32) → (Nat → Int32) → (Nat → Nat → Int32) → Prop) (x1 : Int32) (x2 : Int32) (ml : Nat → Nat → Int64) (x3 : Int32) (x4 : Int32) (s0 : Int32) (s1 : Int32) (mi : Nat → Int32) (ma : Nat → Nat → Int32) : Prop :=
 ((¬ s1 = s0 → (w_X6_parted_103 post k27 x1 x2 ml x3 x4 mi ma)) ∧ (s1 = s0 → (w_X6_isBack (fun (z_6 : Int32) (ma_7 : Nat → Nat → Int32) => ((¬ z_6 = 0 → (w_X6_parted_103 post k27 x1 x2 ml x3 x4 mi ma_7)) ∧ (z_6 = 0 → (vp_in ((nI 668) + x4) 3372 ∧ (∀ z_13 : Int32, z_13 = (x3 + ((nI 10) - (ma_7 2 (((nI 668) + x4)).toNatClampNeg))) → (w_X6_parted_103 post k27 x1 x2 ml z_13 x4 mi ma_7)))))) x4 mi ma ml)))
def w_X6_parted_57 (post : (Int32) → (Nat → Int32) → (Nat → Nat → Int32) → Prop) (k27 : (Int32) → (Int32) → (Nat → Int32) → (Nat → Nat → Int32) → Prop) (x1 : Int32) (x2 : Int32) (ml : Nat → Nat → Int64) (x3 : Int32) (x4 : Int32) (s0 : Int32) (mi : Nat → Int32) (ma : Nat → Nat → Int32) : Prop :=
 (vp_in (s0 + x4) 3372 ∧ (∀ z_15 : Int32, z_15 = (ma 2 ((s0 + x4)).toNatClampNeg) → ((x2 = 0 → (w_X6_parted_74 post k27 x1 x2 ml x3 x4 (nI 0) z_15 mi ma)) ∧ (¬ x2 = 0 → (w_X6_parted_74 post k27 x1 x2 ml x3 x4 (nI 1) z_15 mi ma)))))
def w_X6_parted_27 (post : (Int32) → (Nat → Int32) → (Nat → Nat → Int32) → Prop) (x1 : Int32) (x2 : Int32) (ml : Nat → Nat → Int64) : Nat → (Int32) → (Int32) → (Nat → Int32) → (Nat → Nat → Int32) → Prop
 | 0, _, _, _, _ => False
 | n0 + 1, x3, x4, mi, ma =>
 (vp_in (nI 547) 3372 ∧ (((ma 2 ((nI 547)).toNatClampNeg) ≤ x4 → (post x3 mi ma)) ∧ (¬ (ma 2 ((nI 547)).toNatClampNeg) ≤ x4 → ((¬ x1 = 0 → (w_X6_parted_57 post (fun (q0 : Int32) (q1 : Int32) (q2 : Nat → Int32) (q3 : Nat → Nat → Int32) => w_X6_parted_27 post x1 x2 ml n0 q0 q1 q2 q3) x1 x2 ml x3 x4 (nI 788) mi ma)) ∧ (x1 = 0 → (w_X6_parted_57 post (fun (q0 : Int32) (q1 : Int32) (q2 : Nat → Int32) (q3 : Nat → Nat → Int32) => w_X6_parted_27 post x1 x2 ml n0 q0 q1 q2 q3) x1 x2 ml x3 x4 (nI 728) mi ma))))))
def w_X6_parted (post : (Int32) → (Nat → Int32) → (Nat → Nat → Int32) → Prop) (x1 : Int32) (x2 : Int32) (mi : Nat → Int32) (ma : Nat → Nat → Int32) (ml : Nat → Nat → Int64) : Prop :=
 (∀ mi_29 : Nat → Int32, mi_29 = upd mi 0 (nI 0) → (w_X6_within (fun (z_30 : Int32) => ((¬ z_30 = 0 → (∃ n1 : Nat, (w_X6_parted_27 post x1 x2 ml n1 (nI 0) (nI 0) mi_29 ma))) ∧ (z_30 = 0 → (w_X6_no (fun (z_36 : Int32) (ma_37 : Nat → Nat → Int32) => (post z_36 mi_29 ma_37)) (-2) mi_29 ma ml)))) ((x1).toInt64) (lN 0) (lN 1)))
theorem b_X6_parted_103 {post : (Int32) → (Nat → Int32) → (Nat → Nat → Int32) → Prop}   {x1 : Int32} {x2 : Int32} {ml : Nat → Nat → Int64} {k27 : (Int32) → (Int32) → (Nat → Int32) → (Nat → Nat → Int32) → Prop} (hb : mOK b)  (hk27 : ∀ (x3 : Int32) (x4 : Int32) (mi : Nat → Int32) (ma : Nat → Nat → Int32), k27 x3 x4 mi ma → VV l E X cX6_parted RX6 "parted" 6 r_X6_parted (some .int) (vpi (fun (r : Int32) (h' : AH) => ∃ (mi' : Nat → Int32) (ma' : Nat → Nat → Int32), h' = (mH b mi' ma' ml) ∧ post r mi' ma')) (mH b mi ma ml) 0 0 27 [(0, va_rf (some (b 0))), (1, .int x1), (2, .int x2), (3, .int x3), (4, .int x4)] []) (x3 : Int32) (x4 : Int32) (mi : Nat → Int32) (ma : Nat → Nat → Int32) (hw : w_X6_parted_103 post k27 x1 x2 ml x3 x4 mi ma) : VV l E X cX6_parted RX6 "parted" 6 r_X6_parted (some .int) (vpi (fun (r : Int32) (h' : AH) => ∃ (mi' : Nat → Int32) (ma' : Nat → Nat → Int32), h' = (mH b mi' ma' ml) ∧ post r mi' ma')) (mH b mi ma ml) 0 0 103 [(0, va_rf (some (b 0))), (1, .int x1), (2, .int x2), (3, .int x3), (4, .int x4)] [] := by
  obtain ⟨z_1, e_1⟩ : ∃ z9 : Int32, z9 = x4 + (nI 1) := ⟨_, rfl⟩
  replace hw := hw z_1 e_1
  refine v_iinc (q := 4) (v := z_1) (lv1 := [(4, .int z_1), (0, va_rf (some (b 0))), (1, .int x1), (2, .int x2), (3, .int x3)]) dX6_parted_103 rfl (by rw [e_1, ic_1]) (Nat.le_of_ble_eq_true rfl) rfl ?_
  refine v_goto (tgt := 27) dX6_parted_106 (by decide) ?_
  refine v_sub [1, 2, 3, 4, 0] rfl ?_
  exact hk27 x3 z_1 mi ma hw
theorem b_X6_parted_74 {post : (Int32) → (Nat → Int32) → (Nat → Nat → Int32) → Prop}   {x1 : Int32} {x2 : Int32} {ml : Nat → Nat → Int64} {k27 : (Int32) → (Int32) → (Nat → Int32) → (Nat → Nat → Int32) → Prop} (hb : mOK b)  (hk27 : ∀ (x3 : Int32) (x4 : Int32) (mi : Nat → Int32) (ma : Nat → Nat → Int32), k27 x3 x4 mi ma → VV l E X cX6_parted RX6 "parted" 6 r_X6_parted (some .int) (vpi (fun (r : Int32) (h' : AH) => ∃ (mi' : Nat → Int32) (ma' : Nat → Nat → Int32), h' = (mH b mi' ma' ml) ∧ post r mi' ma')) (mH b mi ma ml) 0 0 27 [(0, va_rf (some (b 0))), (1, .int x1), (2, .int x2), (3, .int x3), (4, .int x4)] []) (x3 : Int32) (x4 : Int32) (s0 : Int32) (s1 : Int32) (mi : Nat → Int32) (ma : Nat → Nat → Int32) (hw : w_X6_parted_74 post k27 x1 x2 ml x3 x4 s0 s1 mi ma) : VV l E X cX6_parted RX6 "parted" 6 r_X6_parted (some .int) (vpi (fun (r : Int32) (h' : AH) => ∃ (mi' : Nat → Int32) (ma' : Nat → Nat → Int32), h' = (mH b mi' ma' ml) ∧ post r mi' ma')) (mH b mi ma ml) 0 0 74 [(0, va_rf (some (b 0))), (1, .int x1), (2, .int x2), (3, .int x3), (4, .int x4)] [.int s0, .int s1] := by
  obtain ⟨hw_4, hw_5⟩ := hw
  refine v_icmp_ne (tgt := 103) dX6_parted_74 (by decide) (fun c_2 => ?_) (fun c_3 => ?_)
  · have hw := hw_4 c_2
    refine v_sub [0, 1, 2, 3, 4] rfl ?_
    exact b_X6_parted_103 hb hk27 x3 x4 mi ma hw
  · have hw := hw_5 c_3
    refine v_aload_n (q := 0) dX6_parted_77 rfl rfl ?_
    refine v_iload (q := 4) dX6_parted_78 rfl ?_
    refine v_callV q2030 q2032 qs92 q113 q2033 (ci := 7) rfl (mH_obj hb) n_X6_isBack ⟨Nat.le_of_ble_eq_true rfl, Nat.le_of_ble_eq_true rfl⟩ [.int x4] [] (met_X6_isBack hb hw) rfl (Nat.zero_le _) ⟨Nat.le_refl _, Nat.le_refl _⟩ dX6_parted_80 rfl (v_ki (fun z_6 h1 hv => ?_))
    clear hw
    obtain ⟨ma_7, rfl, hw⟩ := hv
    obtain ⟨hw_10, hw_11⟩ := hw
    refine v_if_ne (tgt := 103) dX6_parted_83 (by decide) (fun c_8 => ?_) (fun c_9 => ?_)
    · have hw := hw_10 c_8
      refine v_sub [0, 1, 2, 3, 4] rfl ?_
      exact b_X6_parted_103 hb hk27 x3 x4 mi ma_7 hw
    · have hw := hw_11 c_9
      refine v_iload_n (q := 3) dX6_parted_86 rfl rfl ?_
      refine v_bipush dX6_parted_87 bp_10 ?_
      refine v_aload_n (q := 0) dX6_parted_89 rfl rfl ?_
      refine vm_get hb 2 (Nat.le_of_ble_eq_true rfl) q1616 rfl dX6_parted_90 rfl ?_
      refine v_sipush dX6_parted_93 sp_668 ?_
      refine v_iload (q := 4) dX6_parted_96 rfl ?_
      refine v_iadd dX6_parted_98 ?_
      obtain ⟨hi_12, hw⟩ := hw
      refine v_iald dX6_parted_99 (mH_ar2 hb) hi_12 ?_
      refine v_isub dX6_parted_100 ?_
      refine v_iadd dX6_parted_101 ?_
      refine v_topi (fun z_13 e_13 => ?_)
      replace hw := hw z_13 e_13
      refine v_istore_n (lv1 := [(3, .int z_13), (0, va_rf (some (b 0))), (1, .int x1), (2, .int x2), (4, .int x4)]) dX6_parted_102 rfl (Nat.le_of_ble_eq_true rfl) rfl ?_
      refine v_sub [1, 2, 3, 0, 4] rfl ?_
      exact b_X6_parted_103 hb hk27 z_13 x4 mi ma_7 hw
theorem b_X6_parted_57 {post : (Int32) → (Nat → Int32) → (Nat → Nat → Int32) → Prop}   {x1 : Int32} {x2 : Int32} {ml : Nat → Nat → Int64} {k27 : (Int32) → (Int32) → (Nat → Int32) → (Nat → Nat → Int32) → Prop} (hb : mOK b)  (hk27 : ∀ (x3 : Int32) (x4 : Int32) (mi : Nat → Int32) (ma : Nat → Nat → Int32), k27 x3 x4 mi ma → VV l E X cX6_parted RX6 "parted" 6 r_X6_parted (some .int) (vpi (fun (r : Int32) (h' : AH) => ∃ (mi' : Nat → Int32) (ma' : Nat → Nat → Int32), h' = (mH b mi' ma' ml) ∧ post r mi' ma')) (mH b mi ma ml) 0 0 27 [(0, va_rf (some (b 0))), (1, .int x1), (2, .int x2), (3, .int x3), (4, .int x4)] []) (x3 : Int32) (x4 : Int32) (s0 : Int32) (mi : Nat → Int32) (ma : Nat → Nat → Int32) (hw : w_X6_parted_57 post k27 x1 x2 ml x3 x4 s0 mi ma) : VV l E X cX6_parted RX6 "parted" 6 r_X6_parted (some .int) (vpi (fun (r : Int32) (h' : AH) => ∃ (mi' : Nat → Int32) (ma' : Nat → Nat → Int32), h' = (mH b mi' ma' ml) ∧ post r mi' ma')) (mH b mi ma ml) 0 0 57 [(0, va_rf (some (b 0))), (1, .int x1), (2, .int x2), (3, .int x3), (4, .int x4)] [.int s0, va_rf (some (b 2))] := by
  refine v_iload (q := 4) dX6_parted_57 rfl ?_
  refine v_iadd dX6_parted_59 ?_
  obtain ⟨hi_14, hw⟩ := hw
  refine v_iald dX6_parted_60 (mH_ar2 hb) hi_14 ?_
  refine v_topi (fun z_15 e_15 => ?_)
  replace hw := hw z_15 e_15
  refine v_istore (lv1 := [(5, .int z_15), (0, va_rf (some (b 0))), (1, .int x1), (2, .int x2), (3, .int x3), (4, .int x4)]) dX6_parted_61 (Nat.le_of_ble_eq_true rfl) rfl ?_
  refine v_iload (q := 0) dX6_parted_63 rfl ?_
  refine v_iload_n (q := 3) dX6_parted_65 rfl rfl ?_
  obtain ⟨hw_18, hw_19⟩ := hw
  refine v_if_eq (tgt := 73) dX6_parted_66 (by decide) (fun c_16 => ?_) (fun c_17 => ?_)
  · have hw := hw_18 c_16
    refine v_iconst dX6_parted_73 ic_0 ?_
    refine v_sub [1, 2, 3, 4, 5] rfl ?_
    exact b_X6_parted_74 hb hk27 x3 x4 (nI 0) z_15 mi ma hw
  · have hw := hw_19 c_17
    refine v_iconst dX6_parted_69 ic_1 ?_
    refine v_goto (tgt := 74) dX6_parted_70 (by decide) ?_
    refine v_sub [1, 2, 3, 4, 5] rfl ?_
    exact b_X6_parted_74 hb hk27 x3 x4 (nI 1) z_15 mi ma hw
theorem b_X6_parted_27 {post : (Int32) → (Nat → Int32) → (Nat → Nat → Int32) → Prop}   {x1 : Int32} {x2 : Int32} {ml : Nat → Nat → Int64}  (hb : mOK b)   : ∀ (n0 : Nat) (x3 : Int32) (x4 : Int32) (mi : Nat → Int32) (ma : Nat → Nat → Int32), w_X6_parted_27 post x1 x2 ml n0 x3 x4 mi ma → VV l E X cX6_parted RX6 "parted" 6 r_X6_parted (some .int) (vpi (fun (r : Int32) (h' : AH) => ∃ (mi' : Nat → Int32) (ma' : Nat → Nat → Int32), h' = (mH b mi' ma' ml) ∧ post r mi' ma')) (mH b mi ma ml) 0 0 27 [(0, va_rf (some (b 0))), (1, .int x1), (2, .int x2), (3, .int x3), (4, .int x4)] [] := by
  intro n0
  induction n0 with
  | zero =>
    intro x3 x4 mi ma hw
    exact hw.elim
  | succ n0 ih =>
    intro x3 x4 mi ma hw
    refine v_iload (q := 4) dX6_parted_27 rfl ?_
    refine v_aload_n (q := 0) dX6_parted_29 rfl rfl ?_
    refine vm_get hb 2 (Nat.le_of_ble_eq_true rfl) q1616 rfl dX6_parted_30 rfl ?_
    refine v_sipush dX6_parted_33 sp_547 ?_
    obtain ⟨hi_20, hw⟩ := hw
    refine v_iald dX6_parted_36 (mH_ar2 hb) hi_20 ?_
    obtain ⟨hw_23, hw_24⟩ := hw
    refine v_icmp_ge (tgt := 109) dX6_parted_37 (by decide) (fun c_21 => ?_) (fun c_22 => ?_)
    · have hw := hw_23 c_21
      refine v_iload_n (q := 3) dX6_parted_109 rfl rfl ?_
      exact v_iret dX6_parted_110 rfl ⟨_, rfl, _, _, rfl, hw⟩
    · have hw := hw_24 c_22
      refine v_aload_n (q := 0) dX6_parted_40 rfl rfl ?_
      refine vm_get hb 2 (Nat.le_of_ble_eq_true rfl) q1616 rfl dX6_parted_41 rfl ?_
      refine v_iload_n (q := 1) dX6_parted_44 rfl rfl ?_
      obtain ⟨hw_27, hw_28⟩ := hw
      refine v_if_ne (tgt := 54) dX6_parted_45 (by decide) (fun c_25 => ?_) (fun c_26 => ?_)
      · have hw := hw_27 c_25
        refine v_sipush dX6_parted_54 sp_788 ?_
        refine v_sub [0, 1, 2, 3, 4] rfl ?_
        exact b_X6_parted_57 hb (fun q0 q1 q2 q3 z => ih q0 q1 q2 q3 z) x3 x4 (nI 788) mi ma hw
      · have hw := hw_28 c_26
        refine v_sipush dX6_parted_48 sp_728 ?_
        refine v_goto (tgt := 57) dX6_parted_51 (by decide) ?_
        refine v_sub [0, 1, 2, 3, 4] rfl ?_
        exact b_X6_parted_57 hb (fun q0 q1 q2 q3 z => ih q0 q1 q2 q3 z) x3 x4 (nI 728) mi ma hw
theorem e_X6_parted {post : (Int32) → (Nat → Int32) → (Nat → Nat → Int32) → Prop}   {x1 : Int32} {x2 : Int32} {mi : Nat → Int32} {ma : Nat → Nat → Int32} {ml : Nat → Nat → Int64} (hb : mOK b)  (hw : w_X6_parted post  x1 x2 mi ma ml) : VV l E X cX6_parted RX6 "parted" 6 r_X6_parted (some .int) (vpi (fun (r : Int32) (h' : AH) => ∃ (mi' : Nat → Int32) (ma' : Nat → Nat → Int32), h' = (mH b mi' ma' ml) ∧ post r mi' ma')) (mH b mi ma ml) 0 0 0 [(0, va_rf (some (b 0))), (1, .int x1), (2, .int x2)] [] := by
  refine v_aload_n (q := 0) dX6_parted_0 rfl rfl ?_
  refine v_iconst dX6_parted_1 ic_0 ?_
  obtain ⟨mi_29, emi_29⟩ : ∃ z9 : Nat → Int32, z9 = upd mi 0 (nI 0) := ⟨_, rfl⟩
  replace hw := hw mi_29 emi_29
  refine vm_put hb 0 (Nat.le_of_ble_eq_true rfl) q1614 rfl rfl rfl dX6_parted_2 emi_29 rfl ?_
  refine v_iload_n (q := 1) dX6_parted_5 rfl rfl ?_
  refine v_i2l dX6_parted_6 ?_
  refine v_lconst (v := lN 0) dX6_parted_7 rfl ?_
  refine v_lconst (v := lN 1) dX6_parted_8 rfl ?_
  refine v_callS q1734 q1735 q113 q1736 n_X6_within ⟨Nat.le_of_ble_eq_true rfl, Nat.le_of_ble_eq_true rfl⟩ [.long ((x1).toInt64), .long (lN 0), .long (lN 1)] [] (met_X6_within hw) rfl (Nat.zero_le _) ⟨Nat.le_refl _, Nat.le_refl _⟩ dX6_parted_9 rfl (v_ki (fun z_30 h1 hv => ?_))
  clear hw
  obtain ⟨e9, hw⟩ := hv
  refine v_heap e9 ?_
  clear e9
  obtain ⟨hw_33, hw_34⟩ := hw
  refine v_if_ne (tgt := 22) dX6_parted_12 (by decide) (fun c_31 => ?_) (fun c_32 => ?_)
  · have hw := hw_33 c_31
    refine v_iconst dX6_parted_22 ic_0 ?_
    refine v_istore_n (lv1 := [(3, .int (nI 0)), (0, va_rf (some (b 0))), (1, .int x1), (2, .int x2)]) dX6_parted_23 rfl (Nat.le_of_ble_eq_true rfl) rfl ?_
    refine v_iconst dX6_parted_24 ic_0 ?_
    refine v_istore (lv1 := [(4, .int (nI 0)), (3, .int (nI 0)), (0, va_rf (some (b 0))), (1, .int x1), (2, .int x2)]) dX6_parted_25 (Nat.le_of_ble_eq_true rfl) rfl ?_
    obtain ⟨n_35, hw⟩ := hw
    refine v_sub [2, 3, 4, 1, 0] rfl ?_
    exact b_X6_parted_27 hb n_35 (nI 0) (nI 0) mi_29 ma hw
  · have hw := hw_34 c_32
    refine v_aload_n (q := 0) dX6_parted_15 rfl rfl ?_
    refine v_bipush dX6_parted_16 bp_m2 ?_
    refine v_callV q1737 q1739 qs53 q113 q1740 (ci := 7) rfl (mH_obj hb) n_X6_no ⟨Nat.le_of_ble_eq_true rfl, Nat.le_of_ble_eq_true rfl⟩ [.int (-2)] [] (met_X6_no hb hw) rfl (Nat.zero_le _) ⟨Nat.le_refl _, Nat.le_refl _⟩ dX6_parted_18 rfl (v_ki (fun z_36 h1 hv => ?_))
    clear hw
    obtain ⟨ma_37, rfl, hw⟩ := hv
    exact v_iret dX6_parted_21 rfl ⟨_, rfl, _, _, rfl, hw⟩
theorem met_X6_parted {post : (Int32) → (Nat → Int32) → (Nat → Nat → Int32) → Prop}   {x1 : Int32} {x2 : Int32} {mi : Nat → Int32} {ma : Nat → Nat → Int32} {ml : Nat → Nat → Int64} (hb : mOK b)  (hw : w_X6_parted post  x1 x2 mi ma ml) : Mt l E yX6_parted (ws_ yX6_parted cX6_parted 6 (some .int)) r_X6_parted [va_rf (some (b 0)), .int x1, .int x2] (mH b mi ma ml) (vpi (fun (r : Int32) (h' : AH) => ∃ (mi' : Nat → Int32) (ma' : Nat → Nat → Int32), h' = (mH b mi' ma' ml) ∧ post r mi' ma')) := v_entry (by decide +kernel) (Nat.le_of_ble_eq_true rfl) rfl (fun _ => e_X6_parted hb hw)
/-! X6_isMuddled -/
abbrev r_X6_isMuddled : Room := { frames := 4, cells := 0, slots := 0, locals := 100 }
theorem n_X6_isMuddled : vdn yX6_isMuddled 1 := ⟨by decide +kernel, by decide +kernel, by decide +kernel⟩
def w_X6_isMuddled (post : (Int32) → (Nat → Nat → Int32) → Prop) (x1 : Int32) (mi : Nat → Int32) (ma : Nat → Nat → Int32) (ml : Nat → Nat → Int64) : Prop :=
 (vp_in ((nI 724) + x1) 2352 ∧ (∀ y_2 : Int64, y_2 = (ml 3 (((nI 724) + x1)).toNatClampNeg) → (vp_in ((nI 788) + x1) 3372 ∧ ((¬ (ma 2 (((nI 788) + x1)).toNatClampNeg) = (nI 1) → (post (nI 0) ma)) ∧ ((ma 2 (((nI 788) + x1)).toNatClampNeg) = (nI 1) → (((lg_cmp y_2 (lN 0)) = 0 → (post (nI 0) ma)) ∧ (¬ (lg_cmp y_2 (lN 0)) = 0 → (w_X6_mostOfSongs (fun (z_12 : Int32) (ma_13 : Nat → Nat → Int32) => (vp_in (nI 248) 3372 ∧ ((z_12 < (ma_13 2 ((nI 248)).toNatClampNeg) → (post (nI 0) ma_13)) ∧ (¬ z_12 < (ma_13 2 ((nI 248)).toNatClampNeg) → (w_X6_mostOfPrint (fun (z_19 : Int32) (ma_20 : Nat → Nat → Int32) => (vp_in (nI 248) 3372 ∧ (((ma_20 2 ((nI 248)).toNatClampNeg) ≤ z_19 → (post (nI 0) ma_20)) ∧ (¬ (ma_20 2 ((nI 248)).toNatClampNeg) ≤ z_19 → (post (nI 1) ma_20))))) y_2 mi ma_13 ml))))) y_2 (nI 1) mi ma ml))))))))
theorem e_X6_isMuddled {post : (Int32) → (Nat → Nat → Int32) → Prop}   {x1 : Int32} {mi : Nat → Int32} {ma : Nat → Nat → Int32} {ml : Nat → Nat → Int64} (hb : mOK b)  (hw : w_X6_isMuddled post  x1 mi ma ml) : VV l E X cX6_isMuddled RX6 "isMuddled" 4 r_X6_isMuddled (some .boolean) (vpi (fun (r : Int32) (h' : AH) => ∃ (ma' : Nat → Nat → Int32), h' = (mH b mi ma' ml) ∧ post r ma')) (mH b mi ma ml) 0 0 0 [(0, va_rf (some (b 0))), (1, .int x1)] [] := by
  refine v_aload_n (q := 0) dX6_isMuddled_0 rfl rfl ?_
  refine vm_get hb 3 (Nat.le_of_ble_eq_true rfl) q1617 rfl dX6_isMuddled_1 rfl ?_
  refine v_sipush dX6_isMuddled_4 sp_724 ?_
  refine v_iload_n (q := 1) dX6_isMuddled_7 rfl rfl ?_
  refine v_iadd dX6_isMuddled_8 ?_
  obtain ⟨hi_1, hw⟩ := hw
  refine v_lald dX6_isMuddled_9 (mH_ar3 hb) hi_1 ?_
  refine v_topl (fun y_2 e_2 => ?_)
  replace hw := hw y_2 e_2
  refine v_lstore_n (lv1 := [(2, .long y_2), (0, va_rf (some (b 0))), (1, .int x1)]) dX6_isMuddled_10 rfl (Nat.le_of_ble_eq_true rfl) rfl ?_
  refine v_aload_n (q := 1) dX6_isMuddled_11 rfl rfl ?_
  refine vm_get hb 2 (Nat.le_of_ble_eq_true rfl) q1616 rfl dX6_isMuddled_12 rfl ?_
  refine v_sipush dX6_isMuddled_15 sp_788 ?_
  refine v_iload_n (q := 2) dX6_isMuddled_18 rfl rfl ?_
  refine v_iadd dX6_isMuddled_19 ?_
  obtain ⟨hi_3, hw⟩ := hw
  refine v_iald dX6_isMuddled_20 (mH_ar2 hb) hi_3 ?_
  refine v_iconst dX6_isMuddled_21 ic_1 ?_
  obtain ⟨hw_6, hw_7⟩ := hw
  refine v_icmp_ne (tgt := 68) dX6_isMuddled_22 (by decide) (fun c_4 => ?_) (fun c_5 => ?_)
  · have hw := hw_6 c_4
    refine v_iconst dX6_isMuddled_68 ic_0 ?_
    exact v_zret dX6_isMuddled_69 rfl rfl ⟨_, rfl, _, rfl, hw⟩
  · have hw := hw_7 c_5
    refine v_lload_n (q := 0) dX6_isMuddled_25 rfl rfl ?_
    refine v_lconst (v := lN 0) dX6_isMuddled_26 rfl ?_
    refine v_lcmp dX6_isMuddled_27 ?_
    obtain ⟨hw_10, hw_11⟩ := hw
    refine v_if_eq (tgt := 68) dX6_isMuddled_28 (by decide) (fun c_8 => ?_) (fun c_9 => ?_)
    · have hw := hw_10 c_8
      refine v_iconst dX6_isMuddled_68 ic_0 ?_
      exact v_zret dX6_isMuddled_69 rfl rfl ⟨_, rfl, _, rfl, hw⟩
    · have hw := hw_11 c_9
      refine v_aload_n (q := 1) dX6_isMuddled_31 rfl rfl ?_
      refine v_lload_n (q := 0) dX6_isMuddled_32 rfl rfl ?_
      refine v_iconst dX6_isMuddled_33 ic_1 ?_
      refine v_callV q1935 q1937 qs84 q113 q1938 (ci := 7) rfl (mH_obj hb) n_X6_mostOfSongs ⟨Nat.le_of_ble_eq_true rfl, Nat.le_of_ble_eq_true rfl⟩ [.long y_2, .int (nI 1)] [] (met_X6_mostOfSongs hb hw) rfl (Nat.zero_le _) ⟨Nat.le_refl _, Nat.le_refl _⟩ dX6_isMuddled_34 rfl (v_ki (fun z_12 h1 hv => ?_))
      clear hw
      obtain ⟨ma_13, rfl, hw⟩ := hv
      refine v_aload_n (q := 1) dX6_isMuddled_37 rfl rfl ?_
      refine vm_get hb 2 (Nat.le_of_ble_eq_true rfl) q1616 rfl dX6_isMuddled_38 rfl ?_
      refine v_sipush dX6_isMuddled_41 sp_248 ?_
      obtain ⟨hi_14, hw⟩ := hw
      refine v_iald dX6_isMuddled_44 (mH_ar2 hb) hi_14 ?_
      obtain ⟨hw_17, hw_18⟩ := hw
      refine v_icmp_lt (tgt := 68) dX6_isMuddled_45 (by decide) (fun c_15 => ?_) (fun c_16 => ?_)
      · have hw := hw_17 c_15
        refine v_iconst dX6_isMuddled_68 ic_0 ?_
        exact v_zret dX6_isMuddled_69 rfl rfl ⟨_, rfl, _, rfl, hw⟩
      · have hw := hw_18 c_16
        refine v_aload_n (q := 1) dX6_isMuddled_48 rfl rfl ?_
        refine v_lload_n (q := 0) dX6_isMuddled_49 rfl rfl ?_
        refine v_callV q1939 q1941 qs85 q113 q1942 (ci := 7) rfl (mH_obj hb) n_X6_mostOfPrint ⟨Nat.le_of_ble_eq_true rfl, Nat.le_of_ble_eq_true rfl⟩ [.long y_2] [] (met_X6_mostOfPrint hb hw) rfl (Nat.zero_le _) ⟨Nat.le_refl _, Nat.le_refl _⟩ dX6_isMuddled_50 rfl (v_ki (fun z_19 h1 hv => ?_))
        clear hw
        obtain ⟨ma_20, rfl, hw⟩ := hv
        refine v_aload_n (q := 1) dX6_isMuddled_53 rfl rfl ?_
        refine vm_get hb 2 (Nat.le_of_ble_eq_true rfl) q1616 rfl dX6_isMuddled_54 rfl ?_
        refine v_sipush dX6_isMuddled_57 sp_248 ?_
        obtain ⟨hi_21, hw⟩ := hw
        refine v_iald dX6_isMuddled_60 (mH_ar2 hb) hi_21 ?_
        obtain ⟨hw_24, hw_25⟩ := hw
        refine v_icmp_ge (tgt := 68) dX6_isMuddled_61 (by decide) (fun c_22 => ?_) (fun c_23 => ?_)
        · have hw := hw_24 c_22
          refine v_iconst dX6_isMuddled_68 ic_0 ?_
          exact v_zret dX6_isMuddled_69 rfl rfl ⟨_, rfl, _, rfl, hw⟩
        · have hw := hw_25 c_23
          refine v_iconst dX6_isMuddled_64 ic_1 ?_
          refine v_goto (tgt := 69) dX6_isMuddled_65 (by decide) ?_
          exact v_zret dX6_isMuddled_69 rfl rfl ⟨_, rfl, _, rfl, hw⟩
theorem met_X6_isMuddled {post : (Int32) → (Nat → Nat → Int32) → Prop}   {x1 : Int32} {mi : Nat → Int32} {ma : Nat → Nat → Int32} {ml : Nat → Nat → Int64} (hb : mOK b)  (hw : w_X6_isMuddled post  x1 mi ma ml) : Mt l E yX6_isMuddled (ws_ yX6_isMuddled cX6_isMuddled 4 (some .boolean)) r_X6_isMuddled [va_rf (some (b 0)), .int x1] (mH b mi ma ml) (vpi (fun (r : Int32) (h' : AH) => ∃ (ma' : Nat → Nat → Int32), h' = (mH b mi ma' ml) ∧ post r ma')) := v_entry (by decide +kernel) (Nat.le_of_ble_eq_true rfl) rfl (fun _ => e_X6_isMuddled hb hw)
/-! X6_muddled -/
abbrev r_X6_muddled : Room := { frames := 5, cells := 0, slots := 0, locals := 123 }
theorem n_X6_muddled : vdn yX6_muddled 1 := ⟨by decide +kernel, by decide +kernel, by decide +kernel⟩
def w_X6_muddled_42 (post : (Int32) → (Nat → Int32) → (Nat → Nat → Int32) → Prop) (k9 : (Int32) → (Int32) → (Nat → Int32) → (Nat → Nat → Int32) → Prop) (x1 : Int32) (ml : Nat → Nat → Int64) (x2 : Int32) (x3 : Int32) (mi : Nat → Int32) (ma : Nat → Nat → Int32) : Prop :=
 (∀ z_1 : Int32, z_1 = x3 + (nI 1) → (k9 x2 z_1 mi ma))
def w_X6_muddled_9 (post : (Int32) → (Nat → Int32) → (Nat → Nat → Int32) → Prop) (x1 : Int32) (ml : Nat → Nat → Int64) : Nat → (Int32) → (Int32) → (Nat → Int32) → (Nat → Nat → Int32) → Prop
 | 0, _, _, _, _ => False
 | n0 + 1, x2, x3, mi, ma =>
 (vp_in (nI 547) 3372 ∧ (((ma 2 ((nI 547)).toNatClampNeg) ≤ x3 → ((¬ x1 = (-1) → (post (-1) mi ma)) ∧ (x1 = (-1) → (post x2 mi ma)))) ∧ (¬ (ma 2 ((nI 547)).toNatClampNeg) ≤ x3 → (w_X6_isMuddled (fun (z_11 : Int32) (ma_12 : Nat → Nat → Int32) => ((¬ z_11 = 0 → ((¬ x2 = x1 → (∀ z_21 : Int32, z_21 = x2 + (nI 1) → (w_X6_muddled_42 post (fun (q0 : Int32) (q1 : Int32) (q2 : Nat → Int32) (q3 : Nat → Nat → Int32) => w_X6_muddled_9 post x1 ml n0 q0 q1 q2 q3) x1 ml z_21 x3 mi ma_12))) ∧ (x2 = x1 → (post x3 mi ma_12)))) ∧ (z_11 = 0 → (w_X6_muddled_42 post (fun (q0 : Int32) (q1 : Int32) (q2 : Nat → Int32) (q3 : Nat → Nat → Int32) => w_X6_muddled_9 post x1 ml n0 q0 q1 q2 q3) x1 ml x2 x3 mi ma_12)))) x3 mi ma ml))))
def w_X6_muddled (post : (Int32) → (Nat → Int32) → (Nat → Nat → Int32) → Prop) (x1 : Int32) (mi : Nat → Int32) (ma : Nat → Nat → Int32) (ml : Nat → Nat → Int64) : Prop :=
 (∀ mi_22 : Nat → Int32, mi_22 = upd mi 0 (nI 0) → (∃ n1 : Nat, (w_X6_muddled_9 post x1 ml n1 (nI 0) (nI 0) mi_22 ma)))
theorem b_X6_muddled_42 {post : (Int32) → (Nat → Int32) → (Nat → Nat → Int32) → Prop}   {x1 : Int32} {ml : Nat → Nat → Int64} {k9 : (Int32) → (Int32) → (Nat → Int32) → (Nat → Nat → Int32) → Prop} (hb : mOK b)  (hk9 : ∀ (x2 : Int32) (x3 : Int32) (mi : Nat → Int32) (ma : Nat → Nat → Int32), k9 x2 x3 mi ma → VV l E X cX6_muddled RX6 "muddled" 4 r_X6_muddled (some .int) (vpi (fun (r : Int32) (h' : AH) => ∃ (mi' : Nat → Int32) (ma' : Nat → Nat → Int32), h' = (mH b mi' ma' ml) ∧ post r mi' ma')) (mH b mi ma ml) 0 0 9 [(0, va_rf (some (b 0))), (1, .int x1), (2, .int x2), (3, .int x3)] []) (x2 : Int32) (x3 : Int32) (mi : Nat → Int32) (ma : Nat → Nat → Int32) (hw : w_X6_muddled_42 post k9 x1 ml x2 x3 mi ma) : VV l E X cX6_muddled RX6 "muddled" 4 r_X6_muddled (some .int) (vpi (fun (r : Int32) (h' : AH) => ∃ (mi' : Nat → Int32) (ma' : Nat → Nat → Int32), h' = (mH b mi' ma' ml) ∧ post r mi' ma')) (mH b mi ma ml) 0 0 42 [(0, va_rf (some (b 0))), (1, .int x1), (2, .int x2), (3, .int x3)] [] := by
  obtain ⟨z_1, e_1⟩ : ∃ z9 : Int32, z9 = x3 + (nI 1) := ⟨_, rfl⟩
  replace hw := hw z_1 e_1
  refine v_iinc (q := 3) (v := z_1) (lv1 := [(3, .int z_1), (0, va_rf (some (b 0))), (1, .int x1), (2, .int x2)]) dX6_muddled_42 rfl (by rw [e_1, ic_1]) (Nat.le_of_ble_eq_true rfl) rfl ?_
  refine v_goto (tgt := 9) dX6_muddled_45 (by decide) ?_
  refine v_sub [1, 2, 3, 0] rfl ?_
  exact hk9 x2 z_1 mi ma hw
theorem b_X6_muddled_9 {post : (Int32) → (Nat → Int32) → (Nat → Nat → Int32) → Prop}   {x1 : Int32} {ml : Nat → Nat → Int64}  (hb : mOK b)   : ∀ (n0 : Nat) (x2 : Int32) (x3 : Int32) (mi : Nat → Int32) (ma : Nat → Nat → Int32), w_X6_muddled_9 post x1 ml n0 x2 x3 mi ma → VV l E X cX6_muddled RX6 "muddled" 4 r_X6_muddled (some .int) (vpi (fun (r : Int32) (h' : AH) => ∃ (mi' : Nat → Int32) (ma' : Nat → Nat → Int32), h' = (mH b mi' ma' ml) ∧ post r mi' ma')) (mH b mi ma ml) 0 0 9 [(0, va_rf (some (b 0))), (1, .int x1), (2, .int x2), (3, .int x3)] [] := by
  intro n0
  induction n0 with
  | zero =>
    intro x2 x3 mi ma hw
    exact hw.elim
  | succ n0 ih =>
    intro x2 x3 mi ma hw
    refine v_iload_n (q := 3) dX6_muddled_9 rfl rfl ?_
    refine v_aload_n (q := 0) dX6_muddled_10 rfl rfl ?_
    refine vm_get hb 2 (Nat.le_of_ble_eq_true rfl) q1616 rfl dX6_muddled_11 rfl ?_
    refine v_sipush dX6_muddled_14 sp_547 ?_
    obtain ⟨hi_2, hw⟩ := hw
    refine v_iald dX6_muddled_17 (mH_ar2 hb) hi_2 ?_
    obtain ⟨hw_5, hw_6⟩ := hw
    refine v_icmp_ge (tgt := 48) dX6_muddled_18 (by decide) (fun c_3 => ?_) (fun c_4 => ?_)
    · have hw := hw_5 c_3
      refine v_iload_n (q := 1) dX6_muddled_48 rfl rfl ?_
      refine v_iconst dX6_muddled_49 ic_m1 ?_
      obtain ⟨hw_9, hw_10⟩ := hw
      refine v_icmp_ne (tgt := 57) dX6_muddled_50 (by decide) (fun c_7 => ?_) (fun c_8 => ?_)
      · have hw := hw_9 c_7
        refine v_iconst dX6_muddled_57 ic_m1 ?_
        exact v_iret dX6_muddled_58 rfl ⟨_, rfl, _, _, rfl, hw⟩
      · have hw := hw_10 c_8
        refine v_iload_n (q := 2) dX6_muddled_53 rfl rfl ?_
        refine v_goto (tgt := 58) dX6_muddled_54 (by decide) ?_
        exact v_iret dX6_muddled_58 rfl ⟨_, rfl, _, _, rfl, hw⟩
    · have hw := hw_6 c_4
      refine v_aload_n (q := 0) dX6_muddled_21 rfl rfl ?_
      refine v_iload_n (q := 3) dX6_muddled_22 rfl rfl ?_
      refine v_callV q2051 q2053 qs94 q113 q2054 (ci := 7) rfl (mH_obj hb) n_X6_isMuddled ⟨Nat.le_of_ble_eq_true rfl, Nat.le_of_ble_eq_true rfl⟩ [.int x3] [] (met_X6_isMuddled hb hw) rfl (Nat.zero_le _) ⟨Nat.le_refl _, Nat.le_refl _⟩ dX6_muddled_23 rfl (v_ki (fun z_11 h1 hv => ?_))
      clear hw
      obtain ⟨ma_12, rfl, hw⟩ := hv
      obtain ⟨hw_15, hw_16⟩ := hw
      refine v_if_ne (tgt := 32) dX6_muddled_26 (by decide) (fun c_13 => ?_) (fun c_14 => ?_)
      · have hw := hw_15 c_13
        refine v_iload_n (q := 2) dX6_muddled_32 rfl rfl ?_
        refine v_iload_n (q := 1) dX6_muddled_33 rfl rfl ?_
        obtain ⟨hw_19, hw_20⟩ := hw
        refine v_icmp_ne (tgt := 39) dX6_muddled_34 (by decide) (fun c_17 => ?_) (fun c_18 => ?_)
        · have hw := hw_19 c_17
          obtain ⟨z_21, e_21⟩ : ∃ z9 : Int32, z9 = x2 + (nI 1) := ⟨_, rfl⟩
          replace hw := hw z_21 e_21
          refine v_iinc (q := 2) (v := z_21) (lv1 := [(2, .int z_21), (0, va_rf (some (b 0))), (1, .int x1), (3, .int x3)]) dX6_muddled_39 rfl (by rw [e_21, ic_1]) (Nat.le_of_ble_eq_true rfl) rfl ?_
          refine v_sub [1, 2, 0, 3] rfl ?_
          exact b_X6_muddled_42 hb (fun q0 q1 q2 q3 z => ih q0 q1 q2 q3 z) z_21 x3 mi ma_12 hw
        · have hw := hw_20 c_18
          refine v_iload_n (q := 3) dX6_muddled_37 rfl rfl ?_
          exact v_iret dX6_muddled_38 rfl ⟨_, rfl, _, _, rfl, hw⟩
      · have hw := hw_16 c_14
        refine v_goto (tgt := 42) dX6_muddled_29 (by decide) ?_
        refine v_sub [0, 1, 2, 3] rfl ?_
        exact b_X6_muddled_42 hb (fun q0 q1 q2 q3 z => ih q0 q1 q2 q3 z) x2 x3 mi ma_12 hw
theorem e_X6_muddled {post : (Int32) → (Nat → Int32) → (Nat → Nat → Int32) → Prop}   {x1 : Int32} {mi : Nat → Int32} {ma : Nat → Nat → Int32} {ml : Nat → Nat → Int64} (hb : mOK b)  (hw : w_X6_muddled post  x1 mi ma ml) : VV l E X cX6_muddled RX6 "muddled" 4 r_X6_muddled (some .int) (vpi (fun (r : Int32) (h' : AH) => ∃ (mi' : Nat → Int32) (ma' : Nat → Nat → Int32), h' = (mH b mi' ma' ml) ∧ post r mi' ma')) (mH b mi ma ml) 0 0 0 [(0, va_rf (some (b 0))), (1, .int x1)] [] := by
  refine v_aload_n (q := 0) dX6_muddled_0 rfl rfl ?_
  refine v_iconst dX6_muddled_1 ic_0 ?_
  obtain ⟨mi_22, emi_22⟩ : ∃ z9 : Nat → Int32, z9 = upd mi 0 (nI 0) := ⟨_, rfl⟩
  replace hw := hw mi_22 emi_22
  refine vm_put hb 0 (Nat.le_of_ble_eq_true rfl) q1614 rfl rfl rfl dX6_muddled_2 emi_22 rfl ?_
  refine v_iconst dX6_muddled_5 ic_0 ?_
  refine v_istore_n (lv1 := [(2, .int (nI 0)), (0, va_rf (some (b 0))), (1, .int x1)]) dX6_muddled_6 rfl (Nat.le_of_ble_eq_true rfl) rfl ?_
  refine v_iconst dX6_muddled_7 ic_0 ?_
  refine v_istore_n (lv1 := [(3, .int (nI 0)), (2, .int (nI 0)), (0, va_rf (some (b 0))), (1, .int x1)]) dX6_muddled_8 rfl (Nat.le_of_ble_eq_true rfl) rfl ?_
  obtain ⟨n_23, hw⟩ := hw
  refine v_sub [2, 3, 1, 0] rfl ?_
  exact b_X6_muddled_9 hb n_23 (nI 0) (nI 0) mi_22 ma hw
theorem met_X6_muddled {post : (Int32) → (Nat → Int32) → (Nat → Nat → Int32) → Prop}   {x1 : Int32} {mi : Nat → Int32} {ma : Nat → Nat → Int32} {ml : Nat → Nat → Int64} (hb : mOK b)  (hw : w_X6_muddled post  x1 mi ma ml) : Mt l E yX6_muddled (ws_ yX6_muddled cX6_muddled 4 (some .int)) r_X6_muddled [va_rf (some (b 0)), .int x1] (mH b mi ma ml) (vpi (fun (r : Int32) (h' : AH) => ∃ (mi' : Nat → Int32) (ma' : Nat → Nat → Int32), h' = (mH b mi' ma' ml) ∧ post r mi' ma')) := v_entry (by decide +kernel) (Nat.le_of_ble_eq_true rfl) rfl (fun _ => e_X6_muddled hb hw)
/-! X6_glen -/
abbrev r_X6_glen : Room := { frames := 5, cells := 0, slots := 0, locals := 123 }
theorem n_X6_glen : vdn yX6_glen 2 := ⟨by decide +kernel, by decide +kernel, by decide +kernel⟩
def w_X6_glen_29 (post : (Int32) → (Nat → Int32) → (Nat → Nat → Int32) → Prop) (x1 : Int32) (x2 : Int32) (ml : Nat → Nat → Int64) (mi : Nat → Int32) (ma : Nat → Nat → Int32) : Prop :=
 (w_X6_no (fun (z_1 : Int32) (ma_2 : Nat → Nat → Int32) => (post z_1 mi ma_2)) (-2) mi ma ml)
def w_X6_glen_145 (post : (Int32) → (Nat → Int32) → (Nat → Nat → Int32) → Prop) (k41 : (Int32) → (Int32) → (Nat → Int32) → (Nat → Nat → Int32) → Prop) (x1 : Int32) (x2 : Int32) (ml : Nat → Nat → Int64) (x4 : Int32) (s0 : Int32) (s1 : Int32) (mi : Nat → Int32) (ma : Nat → Nat → Int32) : Prop :=
 (∀ z_3 : Int32, z_3 = (s1 + s0) → (∀ z_4 : Int32, z_4 = x4 + (nI 1) → (k41 z_3 z_4 mi ma)))
def w_X6_glen_144 (post : (Int32) → (Nat → Int32) → (Nat → Nat → Int32) → Prop) (k41 : (Int32) → (Int32) → (Nat → Int32) → (Nat → Nat → Int32) → Prop) (x1 : Int32) (x2 : Int32) (ml : Nat → Nat → Int64) (x4 : Int32) (s0 : Int32) (mi : Nat → Int32) (ma : Nat → Nat → Int32) : Prop :=
 (w_X6_glen_145 post k41 x1 x2 ml x4 (nI 0) s0 mi ma)
def w_X6_glen_117 (post : (Int32) → (Nat → Int32) → (Nat → Nat → Int32) → Prop) (k41 : (Int32) → (Int32) → (Nat → Int32) → (Nat → Nat → Int32) → Prop) (x1 : Int32) (x2 : Int32) (ml : Nat → Nat → Int64) (x3 : Int32) (x4 : Int32) (s0 : Int32) (mi : Nat → Int32) (ma : Nat → Nat → Int32) : Prop :=
 (vp_in ((nI 548) + x4) 3372 ∧ ((¬ (ma 2 (((nI 548) + x4)).toNatClampNeg) = x1 → (w_X6_glen_144 post k41 x1 x2 ml x4 x3 mi ma)) ∧ ((ma 2 (((nI 548) + x4)).toNatClampNeg) = x1 → ((s0 = 0 → (w_X6_glen_144 post k41 x1 x2 ml x4 x3 mi ma)) ∧ (¬ s0 = 0 → (w_X6_glen_145 post k41 x1 x2 ml x4 (nI 1) x3 mi ma))))))
def w_X6_glen_112 (post : (Int32) → (Nat → Int32) → (Nat → Nat → Int32) → Prop) (k41 : (Int32) → (Int32) → (Nat → Int32) → (Nat → Nat → Int32) → Prop) (x1 : Int32) (x2 : Int32) (ml : Nat → Nat → Int64) (x3 : Int32) (x4 : Int32) (mi : Nat → Int32) (ma : Nat → Nat → Int32) : Prop :=
 (w_X6_glen_117 post k41 x1 x2 ml x3 x4 (nI 1) mi ma)
def w_X6_glen_116 (post : (Int32) → (Nat → Int32) → (Nat → Nat → Int32) → Prop) (k41 : (Int32) → (Int32) → (Nat → Int32) → (Nat → Nat → Int32) → Prop) (x1 : Int32) (x2 : Int32) (ml : Nat → Nat → Int64) (x3 : Int32) (x4 : Int32) (mi : Nat → Int32) (ma : Nat → Nat → Int32) : Prop :=
 (w_X6_glen_117 post k41 x1 x2 ml x3 x4 (nI 0) mi ma)
def w_X6_glen_98 (post : (Int32) → (Nat → Int32) → (Nat → Nat → Int32) → Prop) (k41 : (Int32) → (Int32) → (Nat → Int32) → (Nat → Nat → Int32) → Prop) (x1 : Int32) (x2 : Int32) (ml : Nat → Nat → Int64) (x3 : Int32) (x4 : Int32) (mi : Nat → Int32) (ma : Nat → Nat → Int32) : Prop :=
 ((¬ x2 = (nI 3) → (w_X6_glen_116 post k41 x1 x2 ml x3 x4 mi ma)) ∧ (x2 = (nI 3) → (w_X6_isBack (fun (z_18 : Int32) (ma_19 : Nat → Nat → Int32) => ((z_18 = 0 → (w_X6_glen_116 post k41 x1 x2 ml x3 x4 mi ma_19)) ∧ (¬ z_18 = 0 → (w_X6_glen_112 post k41 x1 x2 ml x3 x4 mi ma_19)))) x4 mi ma ml)))
def w_X6_glen_78 (post : (Int32) → (Nat → Int32) → (Nat → Nat → Int32) → Prop) (k41 : (Int32) → (Int32) → (Nat → Int32) → (Nat → Nat → Int32) → Prop) (x1 : Int32) (x2 : Int32) (ml : Nat → Nat → Int64) (x3 : Int32) (x4 : Int32) (mi : Nat → Int32) (ma : Nat → Nat → Int32) : Prop :=
 ((¬ x2 = (nI 2) → (w_X6_glen_98 post k41 x1 x2 ml x3 x4 mi ma)) ∧ (x2 = (nI 2) → (vp_in ((nI 788) + x4) 3372 ∧ (((ma 2 (((nI 788) + x4)).toNatClampNeg) = (nI 1) → (w_X6_glen_112 post k41 x1 x2 ml x3 x4 mi ma)) ∧ (¬ (ma 2 (((nI 788) + x4)).toNatClampNeg) = (nI 1) → (w_X6_glen_98 post k41 x1 x2 ml x3 x4 mi ma))))))
def w_X6_glen_41 (post : (Int32) → (Nat → Int32) → (Nat → Nat → Int32) → Prop) (x1 : Int32) (x2 : Int32) (ml : Nat → Nat → Int64) : Nat → (Int32) → (Int32) → (Nat → Int32) → (Nat → Nat → Int32) → Prop
 | 0, _, _, _, _ => False
 | n0 + 1, x3, x4, mi, ma =>
 (vp_in (nI 547) 3372 ∧ (((ma 2 ((nI 547)).toNatClampNeg) ≤ x4 → (post x3 mi ma)) ∧ (¬ (ma 2 ((nI 547)).toNatClampNeg) ≤ x4 → ((x2 = 0 → (w_X6_glen_112 post (fun (q0 : Int32) (q1 : Int32) (q2 : Nat → Int32) (q3 : Nat → Nat → Int32) => w_X6_glen_41 post x1 x2 ml n0 q0 q1 q2 q3) x1 x2 ml x3 x4 mi ma)) ∧ (¬ x2 = 0 → ((¬ x2 = (nI 1) → (w_X6_glen_78 post (fun (q0 : Int32) (q1 : Int32) (q2 : Nat → Int32) (q3 : Nat → Nat → Int32) => w_X6_glen_41 post x1 x2 ml n0 q0 q1 q2 q3) x1 x2 ml x3 x4 mi ma)) ∧ (x2 = (nI 1) → (vp_in ((nI 728) + x4) 3372 ∧ (((ma 2 (((nI 728) + x4)).toNatClampNeg) = (nI 1) → (w_X6_glen_112 post (fun (q0 : Int32) (q1 : Int32) (q2 : Nat → Int32) (q3 : Nat → Nat → Int32) => w_X6_glen_41 post x1 x2 ml n0 q0 q1 q2 q3) x1 x2 ml x3 x4 mi ma)) ∧ (¬ (ma 2 (((nI 728) + x4)).toNatClampNeg) = (nI 1) → (w_X6_glen_78 post (fun (q0 : Int32) (q1 : Int32) (q2 : Nat → Int32) (q3 : Nat → Nat → Int32) => w_X6_glen_41 post x1 x2 ml n0 q0 q1 q2 q3) x1 x2 ml x3 x4 mi ma)))))))))))
def w_X6_glen (post : (Int32) → (Nat → Int32) → (Nat → Nat → Int32) → Prop) (x1 : Int32) (x2 : Int32) (mi : Nat → Int32) (ma : Nat → Nat → Int32) (ml : Nat → Nat → Int64) : Prop :=
 (∀ mi_51 : Nat → Int32, mi_51 = upd mi 0 (nI 0) → (w_X6_within (fun (z_52 : Int32) => ((z_52 = 0 → (w_X6_glen_29 post x1 x2 ml mi_51 ma)) ∧ (¬ z_52 = 0 → (w_X6_within (fun (z_57 : Int32) => ((¬ z_57 = 0 → (∃ n1 : Nat, (w_X6_glen_41 post x1 x2 ml n1 (nI 0) (nI 0) mi_51 ma))) ∧ (z_57 = 0 → (w_X6_glen_29 post x1 x2 ml mi_51 ma)))) ((x2).toInt64) (lN 0) (lN 3))))) ((x1).toInt64) (lN 0) (lN 15)))
theorem b_X6_glen_29 {post : (Int32) → (Nat → Int32) → (Nat → Nat → Int32) → Prop}   {x1 : Int32} {x2 : Int32} {ml : Nat → Nat → Int64}  (hb : mOK b)   (mi : Nat → Int32) (ma : Nat → Nat → Int32) (hw : w_X6_glen_29 post x1 x2 ml mi ma) : VV l E X cX6_glen RX6 "glen" 6 r_X6_glen (some .int) (vpi (fun (r : Int32) (h' : AH) => ∃ (mi' : Nat → Int32) (ma' : Nat → Nat → Int32), h' = (mH b mi' ma' ml) ∧ post r mi' ma')) (mH b mi ma ml) 0 0 29 [(0, va_rf (some (b 0))), (1, .int x1), (2, .int x2)] [] := by
  refine v_aload_n (q := 0) dX6_glen_29 rfl rfl ?_
  refine v_bipush dX6_glen_30 bp_m2 ?_
  refine v_callV q1737 q1739 qs53 q113 q1740 (ci := 7) rfl (mH_obj hb) n_X6_no ⟨Nat.le_of_ble_eq_true rfl, Nat.le_of_ble_eq_true rfl⟩ [.int (-2)] [] (met_X6_no hb hw) rfl (Nat.zero_le _) ⟨Nat.le_refl _, Nat.le_refl _⟩ dX6_glen_32 rfl (v_ki (fun z_1 h1 hv => ?_))
  clear hw
  obtain ⟨ma_2, rfl, hw⟩ := hv
  exact v_iret dX6_glen_35 rfl ⟨_, rfl, _, _, rfl, hw⟩
theorem b_X6_glen_145 {post : (Int32) → (Nat → Int32) → (Nat → Nat → Int32) → Prop}   {x1 : Int32} {x2 : Int32} {ml : Nat → Nat → Int64} {k41 : (Int32) → (Int32) → (Nat → Int32) → (Nat → Nat → Int32) → Prop} (hb : mOK b)  (hk41 : ∀ (x3 : Int32) (x4 : Int32) (mi : Nat → Int32) (ma : Nat → Nat → Int32), k41 x3 x4 mi ma → VV l E X cX6_glen RX6 "glen" 6 r_X6_glen (some .int) (vpi (fun (r : Int32) (h' : AH) => ∃ (mi' : Nat → Int32) (ma' : Nat → Nat → Int32), h' = (mH b mi' ma' ml) ∧ post r mi' ma')) (mH b mi ma ml) 0 0 41 [(0, va_rf (some (b 0))), (1, .int x1), (2, .int x2), (3, .int x3), (4, .int x4)] []) (x4 : Int32) (s0 : Int32) (s1 : Int32) (mi : Nat → Int32) (ma : Nat → Nat → Int32) (hw : w_X6_glen_145 post k41 x1 x2 ml x4 s0 s1 mi ma) : VV l E X cX6_glen RX6 "glen" 6 r_X6_glen (some .int) (vpi (fun (r : Int32) (h' : AH) => ∃ (mi' : Nat → Int32) (ma' : Nat → Nat → Int32), h' = (mH b mi' ma' ml) ∧ post r mi' ma')) (mH b mi ma ml) 0 0 145 [(0, va_rf (some (b 0))), (1, .int x1), (2, .int x2), (4, .int x4)] [.int s0, .int s1] := by
  refine v_iadd dX6_glen_145 ?_
  refine v_topi (fun z_3 e_3 => ?_)
  replace hw := hw z_3 e_3
  refine v_istore_n (lv1 := [(3, .int z_3), (0, va_rf (some (b 0))), (1, .int x1), (2, .int x2), (4, .int x4)]) dX6_glen_146 rfl (Nat.le_of_ble_eq_true rfl) rfl ?_
  obtain ⟨z_4, e_4⟩ : ∃ z9 : Int32, z9 = x4 + (nI 1) := ⟨_, rfl⟩
  replace hw := hw z_4 e_4
  refine v_iinc (q := 4) (v := z_4) (lv1 := [(4, .int z_4), (3, .int z_3), (0, va_rf (some (b 0))), (1, .int x1), (2, .int x2)]) dX6_glen_147 rfl (by rw [e_4, ic_1]) (Nat.le_of_ble_eq_true rfl) rfl ?_
  refine v_goto (tgt := 41) dX6_glen_150 (by decide) ?_
  refine v_sub [2, 3, 4, 1, 0] rfl ?_
  exact hk41 z_3 z_4 mi ma hw
theorem b_X6_glen_144 {post : (Int32) → (Nat → Int32) → (Nat → Nat → Int32) → Prop}   {x1 : Int32} {x2 : Int32} {ml : Nat → Nat → Int64} {k41 : (Int32) → (Int32) → (Nat → Int32) → (Nat → Nat → Int32) → Prop} (hb : mOK b)  (hk41 : ∀ (x3 : Int32) (x4 : Int32) (mi : Nat → Int32) (ma : Nat → Nat → Int32), k41 x3 x4 mi ma → VV l E X cX6_glen RX6 "glen" 6 r_X6_glen (some .int) (vpi (fun (r : Int32) (h' : AH) => ∃ (mi' : Nat → Int32) (ma' : Nat → Nat → Int32), h' = (mH b mi' ma' ml) ∧ post r mi' ma')) (mH b mi ma ml) 0 0 41 [(0, va_rf (some (b 0))), (1, .int x1), (2, .int x2), (3, .int x3), (4, .int x4)] []) (x4 : Int32) (s0 : Int32) (mi : Nat → Int32) (ma : Nat → Nat → Int32) (hw : w_X6_glen_144 post k41 x1 x2 ml x4 s0 mi ma) : VV l E X cX6_glen RX6 "glen" 6 r_X6_glen (some .int) (vpi (fun (r : Int32) (h' : AH) => ∃ (mi' : Nat → Int32) (ma' : Nat → Nat → Int32), h' = (mH b mi' ma' ml) ∧ post r mi' ma')) (mH b mi ma ml) 0 0 144 [(0, va_rf (some (b 0))), (1, .int x1), (2, .int x2), (4, .int x4)] [.int s0] := by
  refine v_iconst dX6_glen_144 ic_0 ?_
  refine v_sub [0, 1, 2, 3] rfl ?_
  exact b_X6_glen_145 hb hk41 x4 (nI 0) s0 mi ma hw
theorem b_X6_glen_117 {post : (Int32) → (Nat → Int32) → (Nat → Nat → Int32) → Prop}   {x1 : Int32} {x2 : Int32} {ml : Nat → Nat → Int64} {k41 : (Int32) → (Int32) → (Nat → Int32) → (Nat → Nat → Int32) → Prop} (hb : mOK b)  (hk41 : ∀ (x3 : Int32) (x4 : Int32) (mi : Nat → Int32) (ma : Nat → Nat → Int32), k41 x3 x4 mi ma → VV l E X cX6_glen RX6 "glen" 6 r_X6_glen (some .int) (vpi (fun (r : Int32) (h' : AH) => ∃ (mi' : Nat → Int32) (ma' : Nat → Nat → Int32), h' = (mH b mi' ma' ml) ∧ post r mi' ma')) (mH b mi ma ml) 0 0 41 [(0, va_rf (some (b 0))), (1, .int x1), (2, .int x2), (3, .int x3), (4, .int x4)] []) (x3 : Int32) (x4 : Int32) (s0 : Int32) (mi : Nat → Int32) (ma : Nat → Nat → Int32) (hw : w_X6_glen_117 post k41 x1 x2 ml x3 x4 s0 mi ma) : VV l E X cX6_glen RX6 "glen" 6 r_X6_glen (some .int) (vpi (fun (r : Int32) (h' : AH) => ∃ (mi' : Nat → Int32) (ma' : Nat → Nat → Int32), h' = (mH b mi' ma' ml) ∧ post r mi' ma')) (mH b mi ma ml) 0 0 117 [(0, va_rf (some (b 0))), (1, .int x1), (2, .int x2), (3, .int x3), (4, .int x4)] [.int s0] := by
  refine v_istore (lv1 := [(5, .int s0), (0, va_rf (some (b 0))), (1, .int x1), (2, .int x2), (3, .int x3), (4, .int x4)]) dX6_glen_117 (Nat.le_of_ble_eq_true rfl) rfl ?_
  refine v_iload_n (q := 4) dX6_glen_119 rfl rfl ?_
  refine v_aload_n (q := 1) dX6_glen_120 rfl rfl ?_
  refine vm_get hb 2 (Nat.le_of_ble_eq_true rfl) q1616 rfl dX6_glen_121 rfl ?_
  refine v_sipush dX6_glen_124 sp_548 ?_
  refine v_iload (q := 5) dX6_glen_127 rfl ?_
  refine v_iadd dX6_glen_129 ?_
  obtain ⟨hi_5, hw⟩ := hw
  refine v_iald dX6_glen_130 (mH_ar2 hb) hi_5 ?_
  refine v_iload_n (q := 2) dX6_glen_131 rfl rfl ?_
  obtain ⟨hw_8, hw_9⟩ := hw
  refine v_icmp_ne (tgt := 144) dX6_glen_132 (by decide) (fun c_6 => ?_) (fun c_7 => ?_)
  · have hw := hw_8 c_6
    refine v_sub [1, 2, 3, 5] rfl ?_
    exact b_X6_glen_144 hb hk41 x4 x3 mi ma hw
  · have hw := hw_9 c_7
    refine v_iload (q := 0) dX6_glen_135 rfl ?_
    obtain ⟨hw_12, hw_13⟩ := hw
    refine v_if_eq (tgt := 144) dX6_glen_137 (by decide) (fun c_10 => ?_) (fun c_11 => ?_)
    · have hw := hw_12 c_10
      refine v_sub [1, 2, 3, 5] rfl ?_
      exact b_X6_glen_144 hb hk41 x4 x3 mi ma hw
    · have hw := hw_13 c_11
      refine v_iconst dX6_glen_140 ic_1 ?_
      refine v_goto (tgt := 145) dX6_glen_141 (by decide) ?_
      refine v_sub [1, 2, 3, 5] rfl ?_
      exact b_X6_glen_145 hb hk41 x4 (nI 1) x3 mi ma hw
theorem b_X6_glen_112 {post : (Int32) → (Nat → Int32) → (Nat → Nat → Int32) → Prop}   {x1 : Int32} {x2 : Int32} {ml : Nat → Nat → Int64} {k41 : (Int32) → (Int32) → (Nat → Int32) → (Nat → Nat → Int32) → Prop} (hb : mOK b)  (hk41 : ∀ (x3 : Int32) (x4 : Int32) (mi : Nat → Int32) (ma : Nat → Nat → Int32), k41 x3 x4 mi ma → VV l E X cX6_glen RX6 "glen" 6 r_X6_glen (some .int) (vpi (fun (r : Int32) (h' : AH) => ∃ (mi' : Nat → Int32) (ma' : Nat → Nat → Int32), h' = (mH b mi' ma' ml) ∧ post r mi' ma')) (mH b mi ma ml) 0 0 41 [(0, va_rf (some (b 0))), (1, .int x1), (2, .int x2), (3, .int x3), (4, .int x4)] []) (x3 : Int32) (x4 : Int32) (mi : Nat → Int32) (ma : Nat → Nat → Int32) (hw : w_X6_glen_112 post k41 x1 x2 ml x3 x4 mi ma) : VV l E X cX6_glen RX6 "glen" 6 r_X6_glen (some .int) (vpi (fun (r : Int32) (h' : AH) => ∃ (mi' : Nat → Int32) (ma' : Nat → Nat → Int32), h' = (mH b mi' ma' ml) ∧ post r mi' ma')) (mH b mi ma ml) 0 0 112 [(0, va_rf (some (b 0))), (1, .int x1), (2, .int x2), (3, .int x3), (4, .int x4)] [] := by
  refine v_iconst dX6_glen_112 ic_1 ?_
  refine v_goto (tgt := 117) dX6_glen_113 (by decide) ?_
  refine v_sub [0, 1, 2, 3, 4] rfl ?_
  exact b_X6_glen_117 hb hk41 x3 x4 (nI 1) mi ma hw
theorem b_X6_glen_116 {post : (Int32) → (Nat → Int32) → (Nat → Nat → Int32) → Prop}   {x1 : Int32} {x2 : Int32} {ml : Nat → Nat → Int64} {k41 : (Int32) → (Int32) → (Nat → Int32) → (Nat → Nat → Int32) → Prop} (hb : mOK b)  (hk41 : ∀ (x3 : Int32) (x4 : Int32) (mi : Nat → Int32) (ma : Nat → Nat → Int32), k41 x3 x4 mi ma → VV l E X cX6_glen RX6 "glen" 6 r_X6_glen (some .int) (vpi (fun (r : Int32) (h' : AH) => ∃ (mi' : Nat → Int32) (ma' : Nat → Nat → Int32), h' = (mH b mi' ma' ml) ∧ post r mi' ma')) (mH b mi ma ml) 0 0 41 [(0, va_rf (some (b 0))), (1, .int x1), (2, .int x2), (3, .int x3), (4, .int x4)] []) (x3 : Int32) (x4 : Int32) (mi : Nat → Int32) (ma : Nat → Nat → Int32) (hw : w_X6_glen_116 post k41 x1 x2 ml x3 x4 mi ma) : VV l E X cX6_glen RX6 "glen" 6 r_X6_glen (some .int) (vpi (fun (r : Int32) (h' : AH) => ∃ (mi' : Nat → Int32) (ma' : Nat → Nat → Int32), h' = (mH b mi' ma' ml) ∧ post r mi' ma')) (mH b mi ma ml) 0 0 116 [(0, va_rf (some (b 0))), (1, .int x1), (2, .int x2), (3, .int x3), (4, .int x4)] [] := by
  refine v_iconst dX6_glen_116 ic_0 ?_
  refine v_sub [0, 1, 2, 3, 4] rfl ?_
  exact b_X6_glen_117 hb hk41 x3 x4 (nI 0) mi ma hw
theorem b_X6_glen_98 {post : (Int32) → (Nat → Int32) → (Nat → Nat → Int32) → Prop}   {x1 : Int32} {x2 : Int32} {ml : Nat → Nat → Int64} {k41 : (Int32) → (Int32) → (Nat → Int32) → (Nat → Nat → Int32) → Prop} (hb : mOK b)  (hk41 : ∀ (x3 : Int32) (x4 : Int32) (mi : Nat → Int32) (ma : Nat → Nat → Int32), k41 x3 x4 mi ma → VV l E X cX6_glen RX6 "glen" 6 r_X6_glen (some .int) (vpi (fun (r : Int32) (h' : AH) => ∃ (mi' : Nat → Int32) (ma' : Nat → Nat → Int32), h' = (mH b mi' ma' ml) ∧ post r mi' ma')) (mH b mi ma ml) 0 0 41 [(0, va_rf (some (b 0))), (1, .int x1), (2, .int x2), (3, .int x3), (4, .int x4)] []) (x3 : Int32) (x4 : Int32) (mi : Nat → Int32) (ma : Nat → Nat → Int32) (hw : w_X6_glen_98 post k41 x1 x2 ml x3 x4 mi ma) : VV l E X cX6_glen RX6 "glen" 6 r_X6_glen (some .int) (vpi (fun (r : Int32) (h' : AH) => ∃ (mi' : Nat → Int32) (ma' : Nat → Nat → Int32), h' = (mH b mi' ma' ml) ∧ post r mi' ma')) (mH b mi ma ml) 0 0 98 [(0, va_rf (some (b 0))), (1, .int x1), (2, .int x2), (3, .int x3), (4, .int x4)] [] := by
  refine v_iload_n (q := 2) dX6_glen_98 rfl rfl ?_
  refine v_iconst dX6_glen_99 ic_3 ?_
  obtain ⟨hw_16, hw_17⟩ := hw
  refine v_icmp_ne (tgt := 116) dX6_glen_100 (by decide) (fun c_14 => ?_) (fun c_15 => ?_)
  · have hw := hw_16 c_14
    refine v_sub [0, 1, 2, 3, 4] rfl ?_
    exact b_X6_glen_116 hb hk41 x3 x4 mi ma hw
  · have hw := hw_17 c_15
    refine v_aload_n (q := 0) dX6_glen_103 rfl rfl ?_
    refine v_iload (q := 4) dX6_glen_104 rfl ?_
    refine v_callV q2030 q2032 qs92 q113 q2033 (ci := 7) rfl (mH_obj hb) n_X6_isBack ⟨Nat.le_of_ble_eq_true rfl, Nat.le_of_ble_eq_true rfl⟩ [.int x4] [] (met_X6_isBack hb hw) rfl (Nat.zero_le _) ⟨Nat.le_refl _, Nat.le_refl _⟩ dX6_glen_106 rfl (v_ki (fun z_18 h1 hv => ?_))
    clear hw
    obtain ⟨ma_19, rfl, hw⟩ := hv
    obtain ⟨hw_22, hw_23⟩ := hw
    refine v_if_eq (tgt := 116) dX6_glen_109 (by decide) (fun c_20 => ?_) (fun c_21 => ?_)
    · have hw := hw_22 c_20
      refine v_sub [0, 1, 2, 3, 4] rfl ?_
      exact b_X6_glen_116 hb hk41 x3 x4 mi ma_19 hw
    · have hw := hw_23 c_21
      refine v_sub [0, 1, 2, 3, 4] rfl ?_
      exact b_X6_glen_112 hb hk41 x3 x4 mi ma_19 hw
theorem b_X6_glen_78 {post : (Int32) → (Nat → Int32) → (Nat → Nat → Int32) → Prop}   {x1 : Int32} {x2 : Int32} {ml : Nat → Nat → Int64} {k41 : (Int32) → (Int32) → (Nat → Int32) → (Nat → Nat → Int32) → Prop} (hb : mOK b)  (hk41 : ∀ (x3 : Int32) (x4 : Int32) (mi : Nat → Int32) (ma : Nat → Nat → Int32), k41 x3 x4 mi ma → VV l E X cX6_glen RX6 "glen" 6 r_X6_glen (some .int) (vpi (fun (r : Int32) (h' : AH) => ∃ (mi' : Nat → Int32) (ma' : Nat → Nat → Int32), h' = (mH b mi' ma' ml) ∧ post r mi' ma')) (mH b mi ma ml) 0 0 41 [(0, va_rf (some (b 0))), (1, .int x1), (2, .int x2), (3, .int x3), (4, .int x4)] []) (x3 : Int32) (x4 : Int32) (mi : Nat → Int32) (ma : Nat → Nat → Int32) (hw : w_X6_glen_78 post k41 x1 x2 ml x3 x4 mi ma) : VV l E X cX6_glen RX6 "glen" 6 r_X6_glen (some .int) (vpi (fun (r : Int32) (h' : AH) => ∃ (mi' : Nat → Int32) (ma' : Nat → Nat → Int32), h' = (mH b mi' ma' ml) ∧ post r mi' ma')) (mH b mi ma ml) 0 0 78 [(0, va_rf (some (b 0))), (1, .int x1), (2, .int x2), (3, .int x3), (4, .int x4)] [] := by
  refine v_iload_n (q := 2) dX6_glen_78 rfl rfl ?_
  refine v_iconst dX6_glen_79 ic_2 ?_
  obtain ⟨hw_26, hw_27⟩ := hw
  refine v_icmp_ne (tgt := 98) dX6_glen_80 (by decide) (fun c_24 => ?_) (fun c_25 => ?_)
  · have hw := hw_26 c_24
    refine v_sub [0, 1, 2, 3, 4] rfl ?_
    exact b_X6_glen_98 hb hk41 x3 x4 mi ma hw
  · have hw := hw_27 c_25
    refine v_aload_n (q := 0) dX6_glen_83 rfl rfl ?_
    refine vm_get hb 2 (Nat.le_of_ble_eq_true rfl) q1616 rfl dX6_glen_84 rfl ?_
    refine v_sipush dX6_glen_87 sp_788 ?_
    refine v_iload (q := 4) dX6_glen_90 rfl ?_
    refine v_iadd dX6_glen_92 ?_
    obtain ⟨hi_28, hw⟩ := hw
    refine v_iald dX6_glen_93 (mH_ar2 hb) hi_28 ?_
    refine v_iconst dX6_glen_94 ic_1 ?_
    obtain ⟨hw_31, hw_32⟩ := hw
    refine v_icmp_eq (tgt := 112) dX6_glen_95 (by decide) (fun c_29 => ?_) (fun c_30 => ?_)
    · have hw := hw_31 c_29
      refine v_sub [0, 1, 2, 3, 4] rfl ?_
      exact b_X6_glen_112 hb hk41 x3 x4 mi ma hw
    · have hw := hw_32 c_30
      refine v_sub [0, 1, 2, 3, 4] rfl ?_
      exact b_X6_glen_98 hb hk41 x3 x4 mi ma hw
theorem b_X6_glen_41 {post : (Int32) → (Nat → Int32) → (Nat → Nat → Int32) → Prop}   {x1 : Int32} {x2 : Int32} {ml : Nat → Nat → Int64}  (hb : mOK b)   : ∀ (n0 : Nat) (x3 : Int32) (x4 : Int32) (mi : Nat → Int32) (ma : Nat → Nat → Int32), w_X6_glen_41 post x1 x2 ml n0 x3 x4 mi ma → VV l E X cX6_glen RX6 "glen" 6 r_X6_glen (some .int) (vpi (fun (r : Int32) (h' : AH) => ∃ (mi' : Nat → Int32) (ma' : Nat → Nat → Int32), h' = (mH b mi' ma' ml) ∧ post r mi' ma')) (mH b mi ma ml) 0 0 41 [(0, va_rf (some (b 0))), (1, .int x1), (2, .int x2), (3, .int x3), (4, .int x4)] [] := by
  intro n0
  induction n0 with
  | zero =>
    intro x3 x4 mi ma hw
    exact hw.elim
  | succ n0 ih =>
    intro x3 x4 mi ma hw
    refine v_iload (q := 4) dX6_glen_41 rfl ?_
    refine v_aload_n (q := 0) dX6_glen_43 rfl rfl ?_
    refine vm_get hb 2 (Nat.le_of_ble_eq_true rfl) q1616 rfl dX6_glen_44 rfl ?_
    refine v_sipush dX6_glen_47 sp_547 ?_
    obtain ⟨hi_33, hw⟩ := hw
    refine v_iald dX6_glen_50 (mH_ar2 hb) hi_33 ?_
    obtain ⟨hw_36, hw_37⟩ := hw
    refine v_icmp_ge (tgt := 153) dX6_glen_51 (by decide) (fun c_34 => ?_) (fun c_35 => ?_)
    · have hw := hw_36 c_34
      refine v_iload_n (q := 3) dX6_glen_153 rfl rfl ?_
      exact v_iret dX6_glen_154 rfl ⟨_, rfl, _, _, rfl, hw⟩
    · have hw := hw_37 c_35
      refine v_iload_n (q := 2) dX6_glen_54 rfl rfl ?_
      obtain ⟨hw_40, hw_41⟩ := hw
      refine v_if_eq (tgt := 112) dX6_glen_55 (by decide) (fun c_38 => ?_) (fun c_39 => ?_)
      · have hw := hw_40 c_38
        refine v_sub [0, 1, 2, 3, 4] rfl ?_
        exact b_X6_glen_112 hb (fun q0 q1 q2 q3 z => ih q0 q1 q2 q3 z) x3 x4 mi ma hw
      · have hw := hw_41 c_39
        refine v_iload_n (q := 2) dX6_glen_58 rfl rfl ?_
        refine v_iconst dX6_glen_59 ic_1 ?_
        obtain ⟨hw_44, hw_45⟩ := hw
        refine v_icmp_ne (tgt := 78) dX6_glen_60 (by decide) (fun c_42 => ?_) (fun c_43 => ?_)
        · have hw := hw_44 c_42
          refine v_sub [0, 1, 2, 3, 4] rfl ?_
          exact b_X6_glen_78 hb (fun q0 q1 q2 q3 z => ih q0 q1 q2 q3 z) x3 x4 mi ma hw
        · have hw := hw_45 c_43
          refine v_aload_n (q := 0) dX6_glen_63 rfl rfl ?_
          refine vm_get hb 2 (Nat.le_of_ble_eq_true rfl) q1616 rfl dX6_glen_64 rfl ?_
          refine v_sipush dX6_glen_67 sp_728 ?_
          refine v_iload (q := 4) dX6_glen_70 rfl ?_
          refine v_iadd dX6_glen_72 ?_
          obtain ⟨hi_46, hw⟩ := hw
          refine v_iald dX6_glen_73 (mH_ar2 hb) hi_46 ?_
          refine v_iconst dX6_glen_74 ic_1 ?_
          obtain ⟨hw_49, hw_50⟩ := hw
          refine v_icmp_eq (tgt := 112) dX6_glen_75 (by decide) (fun c_47 => ?_) (fun c_48 => ?_)
          · have hw := hw_49 c_47
            refine v_sub [0, 1, 2, 3, 4] rfl ?_
            exact b_X6_glen_112 hb (fun q0 q1 q2 q3 z => ih q0 q1 q2 q3 z) x3 x4 mi ma hw
          · have hw := hw_50 c_48
            refine v_sub [0, 1, 2, 3, 4] rfl ?_
            exact b_X6_glen_78 hb (fun q0 q1 q2 q3 z => ih q0 q1 q2 q3 z) x3 x4 mi ma hw
theorem e_X6_glen {post : (Int32) → (Nat → Int32) → (Nat → Nat → Int32) → Prop}   {x1 : Int32} {x2 : Int32} {mi : Nat → Int32} {ma : Nat → Nat → Int32} {ml : Nat → Nat → Int64} (hb : mOK b)  (hw : w_X6_glen post  x1 x2 mi ma ml) : VV l E X cX6_glen RX6 "glen" 6 r_X6_glen (some .int) (vpi (fun (r : Int32) (h' : AH) => ∃ (mi' : Nat → Int32) (ma' : Nat → Nat → Int32), h' = (mH b mi' ma' ml) ∧ post r mi' ma')) (mH b mi ma ml) 0 0 0 [(0, va_rf (some (b 0))), (1, .int x1), (2, .int x2)] [] := by
  refine v_aload_n (q := 0) dX6_glen_0 rfl rfl ?_
  refine v_iconst dX6_glen_1 ic_0 ?_
  obtain ⟨mi_51, emi_51⟩ : ∃ z9 : Nat → Int32, z9 = upd mi 0 (nI 0) := ⟨_, rfl⟩
  replace hw := hw mi_51 emi_51
  refine vm_put hb 0 (Nat.le_of_ble_eq_true rfl) q1614 rfl rfl rfl dX6_glen_2 emi_51 rfl ?_
  refine v_iload_n (q := 1) dX6_glen_5 rfl rfl ?_
  refine v_i2l dX6_glen_6 ?_
  refine v_lconst (v := lN 0) dX6_glen_7 rfl ?_
  refine v_ldc2 (v := (lN 15)) dX6_glen_8 q1742 ?_
  refine v_callS q1734 q1735 q113 q1736 n_X6_within ⟨Nat.le_of_ble_eq_true rfl, Nat.le_of_ble_eq_true rfl⟩ [.long ((x1).toInt64), .long (lN 0), .long (lN 15)] [] (met_X6_within hw) rfl (Nat.zero_le _) ⟨Nat.le_refl _, Nat.le_refl _⟩ dX6_glen_11 rfl (v_ki (fun z_52 h1 hv => ?_))
  clear hw
  obtain ⟨e9, hw⟩ := hv
  refine v_heap e9 ?_
  clear e9
  obtain ⟨hw_55, hw_56⟩ := hw
  refine v_if_eq (tgt := 29) dX6_glen_14 (by decide) (fun c_53 => ?_) (fun c_54 => ?_)
  · have hw := hw_55 c_53
    refine v_sub [0, 1, 2] rfl ?_
    exact b_X6_glen_29 hb mi_51 ma hw
  · have hw := hw_56 c_54
    refine v_iload_n (q := 2) dX6_glen_17 rfl rfl ?_
    refine v_i2l dX6_glen_18 ?_
    refine v_lconst (v := lN 0) dX6_glen_19 rfl ?_
    refine v_ldc2 (v := (lN 3)) dX6_glen_20 q2059 ?_
    refine v_callS q1734 q1735 q113 q1736 n_X6_within ⟨Nat.le_of_ble_eq_true rfl, Nat.le_of_ble_eq_true rfl⟩ [.long ((x2).toInt64), .long (lN 0), .long (lN 3)] [] (met_X6_within hw) rfl (Nat.zero_le _) ⟨Nat.le_refl _, Nat.le_refl _⟩ dX6_glen_23 rfl (v_ki (fun z_57 h1 hv => ?_))
    clear hw
    obtain ⟨e9, hw⟩ := hv
    refine v_heap e9 ?_
    clear e9
    obtain ⟨hw_60, hw_61⟩ := hw
    refine v_if_ne (tgt := 36) dX6_glen_26 (by decide) (fun c_58 => ?_) (fun c_59 => ?_)
    · have hw := hw_60 c_58
      refine v_iconst dX6_glen_36 ic_0 ?_
      refine v_istore_n (lv1 := [(3, .int (nI 0)), (0, va_rf (some (b 0))), (1, .int x1), (2, .int x2)]) dX6_glen_37 rfl (Nat.le_of_ble_eq_true rfl) rfl ?_
      refine v_iconst dX6_glen_38 ic_0 ?_
      refine v_istore (lv1 := [(4, .int (nI 0)), (3, .int (nI 0)), (0, va_rf (some (b 0))), (1, .int x1), (2, .int x2)]) dX6_glen_39 (Nat.le_of_ble_eq_true rfl) rfl ?_
      obtain ⟨n_62, hw⟩ := hw
      refine v_sub [2, 3, 4, 1, 0] rfl ?_
      exact b_X6_glen_41 hb n_62 (nI 0) (nI 0) mi_51 ma hw
    · have hw := hw_61 c_59
      refine v_sub [0, 1, 2] rfl ?_
      exact b_X6_glen_29 hb mi_51 ma hw
theorem met_X6_glen {post : (Int32) → (Nat → Int32) → (Nat → Nat → Int32) → Prop}   {x1 : Int32} {x2 : Int32} {mi : Nat → Int32} {ma : Nat → Nat → Int32} {ml : Nat → Nat → Int64} (hb : mOK b)  (hw : w_X6_glen post  x1 x2 mi ma ml) : Mt l E yX6_glen (ws_ yX6_glen cX6_glen 6 (some .int)) r_X6_glen [va_rf (some (b 0)), .int x1, .int x2] (mH b mi ma ml) (vpi (fun (r : Int32) (h' : AH) => ∃ (mi' : Nat → Int32) (ma' : Nat → Nat → Int32), h' = (mH b mi' ma' ml) ∧ post r mi' ma')) := v_entry (by decide +kernel) (Nat.le_of_ble_eq_true rfl) rfl (fun _ => e_X6_glen hb hw)
/-! X6_paid -/
abbrev r_X6_paid : Room := { frames := 1, cells := 0, slots := 0, locals := 25 }
theorem n_X6_paid : vdn yX6_paid 2 := ⟨by decide +kernel, by decide +kernel, by decide +kernel⟩
def w_X6_paid_29 (post : (Int32) → (Nat → Int32) → (Nat → Nat → Int32) → Prop) (x1 : Int32) (x2 : Int32) (ml : Nat → Nat → Int64) (mi : Nat → Int32) (ma : Nat → Nat → Int32) : Prop :=
 (w_X6_no (fun (z_1 : Int32) (ma_2 : Nat → Nat → Int32) => (post z_1 mi ma_2)) (-3) mi ma ml)
def w_X6_paid (post : (Int32) → (Nat → Int32) → (Nat → Nat → Int32) → Prop) (x1 : Int32) (x2 : Int32) (mi : Nat → Int32) (ma : Nat → Nat → Int32) (ml : Nat → Nat → Int64) : Prop :=
 (∀ mi_3 : Nat → Int32, mi_3 = upd mi 0 (nI 0) → (w_X6_within (fun (z_4 : Int32) => ((z_4 = 0 → (w_X6_paid_29 post x1 x2 ml mi_3 ma)) ∧ (¬ z_4 = 0 → (w_X6_within (fun (z_9 : Int32) => ((¬ z_9 = 0 → (vp_in (nI 848) 3372 ∧ ((¬ (ma 2 ((nI 848)).toNatClampNeg) = (nI 20) → (vp_in (nI 848) 3372 ∧ (vp_in ((nI 849) + (ma 2 ((nI 848)).toNatClampNeg)) 3372 ∧ ∀ ma_21 : Nat → Nat → Int32, ma_21 = mup ma 2 (((nI 849) + (ma 2 ((nI 848)).toNatClampNeg))).toNatClampNeg x1 → (vp_in (nI 848) 3372 ∧ (vp_in ((nI 869) + (ma_21 2 ((nI 848)).toNatClampNeg)) 3372 ∧ ∀ ma_24 : Nat → Nat → Int32, ma_24 = mup ma_21 2 (((nI 869) + (ma_21 2 ((nI 848)).toNatClampNeg))).toNatClampNeg x2 → (vp_in (nI 848) 3372 ∧ (vp_in (nI 848) 3372 ∧ ∀ ma_27 : Nat → Nat → Int32, ma_27 = mup ma_24 2 ((nI 848)).toNatClampNeg ((ma_24 2 ((nI 848)).toNatClampNeg) + (nI 1)) → (vp_in (nI 848) 3372 ∧ (post (ma_27 2 ((nI 848)).toNatClampNeg) mi_3 ma_27))))))))) ∧ ((ma 2 ((nI 848)).toNatClampNeg) = (nI 20) → (w_X6_no (fun (z_29 : Int32) (ma_30 : Nat → Nat → Int32) => (post z_29 mi_3 ma_30)) (-4) mi_3 ma ml))))) ∧ (z_9 = 0 → (w_X6_paid_29 post x1 x2 ml mi_3 ma)))) ((x2).toInt64) (lN 1) (lN 999))))) ((x1).toInt64) (lN 0) (lN 9999)))
theorem b_X6_paid_29 {post : (Int32) → (Nat → Int32) → (Nat → Nat → Int32) → Prop}   {x1 : Int32} {x2 : Int32} {ml : Nat → Nat → Int64}  (hb : mOK b)   (mi : Nat → Int32) (ma : Nat → Nat → Int32) (hw : w_X6_paid_29 post x1 x2 ml mi ma) : VV l E X cX6_paid RX6 "paid" 3 r_X6_paid (some .int) (vpi (fun (r : Int32) (h' : AH) => ∃ (mi' : Nat → Int32) (ma' : Nat → Nat → Int32), h' = (mH b mi' ma' ml) ∧ post r mi' ma')) (mH b mi ma ml) 0 0 29 [(0, va_rf (some (b 0))), (1, .int x1), (2, .int x2)] [] := by
  refine v_aload_n (q := 0) dX6_paid_29 rfl rfl ?_
  refine v_bipush dX6_paid_30 bp_m3 ?_
  refine v_callV q1737 q1739 qs53 q113 q1740 (ci := 7) rfl (mH_obj hb) n_X6_no ⟨Nat.le_of_ble_eq_true rfl, Nat.le_of_ble_eq_true rfl⟩ [.int (-3)] [] (met_X6_no hb hw) rfl (Nat.zero_le _) ⟨Nat.le_refl _, Nat.le_refl _⟩ dX6_paid_32 rfl (v_ki (fun z_1 h1 hv => ?_))
  clear hw
  obtain ⟨ma_2, rfl, hw⟩ := hv
  exact v_iret dX6_paid_35 rfl ⟨_, rfl, _, _, rfl, hw⟩
theorem e_X6_paid {post : (Int32) → (Nat → Int32) → (Nat → Nat → Int32) → Prop}   {x1 : Int32} {x2 : Int32} {mi : Nat → Int32} {ma : Nat → Nat → Int32} {ml : Nat → Nat → Int64} (hb : mOK b)  (hw : w_X6_paid post  x1 x2 mi ma ml) : VV l E X cX6_paid RX6 "paid" 3 r_X6_paid (some .int) (vpi (fun (r : Int32) (h' : AH) => ∃ (mi' : Nat → Int32) (ma' : Nat → Nat → Int32), h' = (mH b mi' ma' ml) ∧ post r mi' ma')) (mH b mi ma ml) 0 0 0 [(0, va_rf (some (b 0))), (1, .int x1), (2, .int x2)] [] := by
  refine v_aload_n (q := 0) dX6_paid_0 rfl rfl ?_
  refine v_iconst dX6_paid_1 ic_0 ?_
  obtain ⟨mi_3, emi_3⟩ : ∃ z9 : Nat → Int32, z9 = upd mi 0 (nI 0) := ⟨_, rfl⟩
  replace hw := hw mi_3 emi_3
  refine vm_put hb 0 (Nat.le_of_ble_eq_true rfl) q1614 rfl rfl rfl dX6_paid_2 emi_3 rfl ?_
  refine v_iload_n (q := 1) dX6_paid_5 rfl rfl ?_
  refine v_i2l dX6_paid_6 ?_
  refine v_lconst (v := lN 0) dX6_paid_7 rfl ?_
  refine v_ldc2 (v := (lN 9999)) dX6_paid_8 q1743 ?_
  refine v_callS q1734 q1735 q113 q1736 n_X6_within ⟨Nat.le_of_ble_eq_true rfl, Nat.le_of_ble_eq_true rfl⟩ [.long ((x1).toInt64), .long (lN 0), .long (lN 9999)] [] (met_X6_within hw) rfl (Nat.zero_le _) ⟨Nat.le_refl _, Nat.le_refl _⟩ dX6_paid_11 rfl (v_ki (fun z_4 h1 hv => ?_))
  clear hw
  obtain ⟨e9, hw⟩ := hv
  refine v_heap e9 ?_
  clear e9
  obtain ⟨hw_7, hw_8⟩ := hw
  refine v_if_eq (tgt := 29) dX6_paid_14 (by decide) (fun c_5 => ?_) (fun c_6 => ?_)
  · have hw := hw_7 c_5
    refine v_sub [0, 1, 2] rfl ?_
    exact b_X6_paid_29 hb mi_3 ma hw
  · have hw := hw_8 c_6
    refine v_iload_n (q := 2) dX6_paid_17 rfl rfl ?_
    refine v_i2l dX6_paid_18 ?_
    refine v_lconst (v := lN 1) dX6_paid_19 rfl ?_
    refine v_ldc2 (v := (lN 999)) dX6_paid_20 q2064 ?_
    refine v_callS q1734 q1735 q113 q1736 n_X6_within ⟨Nat.le_of_ble_eq_true rfl, Nat.le_of_ble_eq_true rfl⟩ [.long ((x2).toInt64), .long (lN 1), .long (lN 999)] [] (met_X6_within hw) rfl (Nat.zero_le _) ⟨Nat.le_refl _, Nat.le_refl _⟩ dX6_paid_23 rfl (v_ki (fun z_9 h1 hv => ?_))
    clear hw
    obtain ⟨e9, hw⟩ := hv
    refine v_heap e9 ?_
    clear e9
    obtain ⟨hw_12, hw_13⟩ := hw
    refine v_if_ne (tgt := 36) dX6_paid_26 (by decide) (fun c_10 => ?_) (fun c_11 => ?_)
    · have hw := hw_12 c_10
      refine v_aload_n (q := 0) dX6_paid_36 rfl rfl ?_
      refine vm_get hb 2 (Nat.le_of_ble_eq_true rfl) q1616 rfl dX6_paid_37 rfl ?_
      refine v_sipush dX6_paid_40 sp_848 ?_
      obtain ⟨hi_14, hw⟩ := hw
      refine v_iald dX6_paid_43 (mH_ar2 hb) hi_14 ?_
      refine v_bipush dX6_paid_44 bp_20 ?_
      obtain ⟨hw_17, hw_18⟩ := hw
      refine v_icmp_ne (tgt := 56) dX6_paid_46 (by decide) (fun c_15 => ?_) (fun c_16 => ?_)
      · have hw := hw_17 c_15
        refine v_aload_n (q := 0) dX6_paid_56 rfl rfl ?_
        refine vm_get hb 2 (Nat.le_of_ble_eq_true rfl) q1616 rfl dX6_paid_57 rfl ?_
        refine v_sipush dX6_paid_60 sp_849 ?_
        refine v_aload_n (q := 0) dX6_paid_63 rfl rfl ?_
        refine vm_get hb 2 (Nat.le_of_ble_eq_true rfl) q1616 rfl dX6_paid_64 rfl ?_
        refine v_sipush dX6_paid_67 sp_848 ?_
        obtain ⟨hi_19, hw⟩ := hw
        refine v_iald dX6_paid_70 (mH_ar2 hb) hi_19 ?_
        refine v_iadd dX6_paid_71 ?_
        refine v_iload_n (q := 1) dX6_paid_72 rfl rfl ?_
        obtain ⟨hi_20, hw⟩ := hw
        obtain ⟨ma_21, ema_21⟩ : ∃ z9 : Nat → Nat → Int32, z9 = mup ma 2 (((nI 849) + (ma 2 ((nI 848)).toNatClampNeg))).toNatClampNeg x1 := ⟨_, rfl⟩
        replace hw := hw ma_21 ema_21
        refine v_iast dX6_paid_73 (mH_ar2 hb) hi_20 ?_
        refine v_heap (h' := mH b mi_3 ma_21 ml) (by rw [ema_21]; exact mH_st2 hb) ?_
        refine v_aload_n (q := 0) dX6_paid_74 rfl rfl ?_
        refine vm_get hb 2 (Nat.le_of_ble_eq_true rfl) q1616 rfl dX6_paid_75 rfl ?_
        refine v_sipush dX6_paid_78 sp_869 ?_
        refine v_aload_n (q := 0) dX6_paid_81 rfl rfl ?_
        refine vm_get hb 2 (Nat.le_of_ble_eq_true rfl) q1616 rfl dX6_paid_82 rfl ?_
        refine v_sipush dX6_paid_85 sp_848 ?_
        obtain ⟨hi_22, hw⟩ := hw
        refine v_iald dX6_paid_88 (mH_ar2 hb) hi_22 ?_
        refine v_iadd dX6_paid_89 ?_
        refine v_iload_n (q := 2) dX6_paid_90 rfl rfl ?_
        obtain ⟨hi_23, hw⟩ := hw
        obtain ⟨ma_24, ema_24⟩ : ∃ z9 : Nat → Nat → Int32, z9 = mup ma_21 2 (((nI 869) + (ma_21 2 ((nI 848)).toNatClampNeg))).toNatClampNeg x2 := ⟨_, rfl⟩
        replace hw := hw ma_24 ema_24
        refine v_iast dX6_paid_91 (mH_ar2 hb) hi_23 ?_
        refine v_heap (h' := mH b mi_3 ma_24 ml) (by rw [ema_24]; exact mH_st2 hb) ?_
        refine v_aload_n (q := 0) dX6_paid_92 rfl rfl ?_
        refine vm_get hb 2 (Nat.le_of_ble_eq_true rfl) q1616 rfl dX6_paid_93 rfl ?_
        refine v_sipush dX6_paid_96 sp_848 ?_
        refine v_dup2 dX6_paid_99 rfl (v_rf1 _) ?_
        obtain ⟨hi_25, hw⟩ := hw
        refine v_iald dX6_paid_100 (mH_ar2 hb) hi_25 ?_
        refine v_iconst dX6_paid_101 ic_1 ?_
        refine v_iadd dX6_paid_102 ?_
        obtain ⟨hi_26, hw⟩ := hw
        obtain ⟨ma_27, ema_27⟩ : ∃ z9 : Nat → Nat → Int32, z9 = mup ma_24 2 ((nI 848)).toNatClampNeg ((ma_24 2 ((nI 848)).toNatClampNeg) + (nI 1)) := ⟨_, rfl⟩
        replace hw := hw ma_27 ema_27
        refine v_iast dX6_paid_103 (mH_ar2 hb) hi_26 ?_
        refine v_heap (h' := mH b mi_3 ma_27 ml) (by rw [ema_27]; exact mH_st2 hb) ?_
        refine v_aload_n (q := 0) dX6_paid_104 rfl rfl ?_
        refine vm_get hb 2 (Nat.le_of_ble_eq_true rfl) q1616 rfl dX6_paid_105 rfl ?_
        refine v_sipush dX6_paid_108 sp_848 ?_
        obtain ⟨hi_28, hw⟩ := hw
        refine v_iald dX6_paid_111 (mH_ar2 hb) hi_28 ?_
        exact v_iret dX6_paid_112 rfl ⟨_, rfl, _, _, rfl, hw⟩
      · have hw := hw_18 c_16
        refine v_aload_n (q := 0) dX6_paid_49 rfl rfl ?_
        refine v_bipush dX6_paid_50 bp_m4 ?_
        refine v_callV q1737 q1739 qs53 q113 q1740 (ci := 7) rfl (mH_obj hb) n_X6_no ⟨Nat.le_of_ble_eq_true rfl, Nat.le_of_ble_eq_true rfl⟩ [.int (-4)] [] (met_X6_no hb hw) rfl (Nat.zero_le _) ⟨Nat.le_refl _, Nat.le_refl _⟩ dX6_paid_52 rfl (v_ki (fun z_29 h1 hv => ?_))
        clear hw
        obtain ⟨ma_30, rfl, hw⟩ := hv
        exact v_iret dX6_paid_55 rfl ⟨_, rfl, _, _, rfl, hw⟩
    · have hw := hw_13 c_11
      refine v_sub [0, 1, 2] rfl ?_
      exact b_X6_paid_29 hb mi_3 ma hw
theorem met_X6_paid {post : (Int32) → (Nat → Int32) → (Nat → Nat → Int32) → Prop}   {x1 : Int32} {x2 : Int32} {mi : Nat → Int32} {ma : Nat → Nat → Int32} {ml : Nat → Nat → Int64} (hb : mOK b)  (hw : w_X6_paid post  x1 x2 mi ma ml) : Mt l E yX6_paid (ws_ yX6_paid cX6_paid 3 (some .int)) r_X6_paid [va_rf (some (b 0)), .int x1, .int x2] (mH b mi ma ml) (vpi (fun (r : Int32) (h' : AH) => ∃ (mi' : Nat → Int32) (ma' : Nat → Nat → Int32), h' = (mH b mi' ma' ml) ∧ post r mi' ma')) := v_entry (by decide +kernel) (Nat.le_of_ble_eq_true rfl) rfl (fun _ => e_X6_paid hb hw)
/-! X6_pages -/
abbrev r_X6_pages : Room := { frames := 1, cells := 0, slots := 0, locals := 25 }
theorem n_X6_pages : vdn yX6_pages 2 := ⟨by decide +kernel, by decide +kernel, by decide +kernel⟩
def w_X6_pages_29 (post : (Int32) → (Nat → Int32) → (Nat → Nat → Int32) → Prop) (x1 : Int32) (x2 : Int32) (ml : Nat → Nat → Int64) (mi : Nat → Int32) (ma : Nat → Nat → Int32) : Prop :=
 (w_X6_no (fun (z_1 : Int32) (ma_2 : Nat → Nat → Int32) => (post z_1 mi ma_2)) (-3) mi ma ml)
def w_X6_pages (post : (Int32) → (Nat → Int32) → (Nat → Nat → Int32) → Prop) (x1 : Int32) (x2 : Int32) (mi : Nat → Int32) (ma : Nat → Nat → Int32) (ml : Nat → Nat → Int64) : Prop :=
 (∀ mi_3 : Nat → Int32, mi_3 = upd mi 0 (nI 0) → (w_X6_within (fun (z_4 : Int32) => ((z_4 = 0 → (w_X6_pages_29 post x1 x2 ml mi_3 ma)) ∧ (¬ z_4 = 0 → (w_X6_within (fun (z_9 : Int32) => ((¬ z_9 = 0 → (vp_in (nI 889) 3372 ∧ ((¬ (ma 2 ((nI 889)).toNatClampNeg) = (nI 40) → (vp_in (nI 889) 3372 ∧ (vp_in ((nI 890) + (ma 2 ((nI 889)).toNatClampNeg)) 3372 ∧ ∀ ma_21 : Nat → Nat → Int32, ma_21 = mup ma 2 (((nI 890) + (ma 2 ((nI 889)).toNatClampNeg))).toNatClampNeg x1 → (vp_in (nI 889) 3372 ∧ (vp_in ((nI 930) + (ma_21 2 ((nI 889)).toNatClampNeg)) 3372 ∧ ∀ ma_24 : Nat → Nat → Int32, ma_24 = mup ma_21 2 (((nI 930) + (ma_21 2 ((nI 889)).toNatClampNeg))).toNatClampNeg x2 → (vp_in (nI 889) 3372 ∧ (vp_in (nI 889) 3372 ∧ ∀ ma_27 : Nat → Nat → Int32, ma_27 = mup ma_24 2 ((nI 889)).toNatClampNeg ((ma_24 2 ((nI 889)).toNatClampNeg) + (nI 1)) → (vp_in (nI 889) 3372 ∧ (post (ma_27 2 ((nI 889)).toNatClampNeg) mi_3 ma_27))))))))) ∧ ((ma 2 ((nI 889)).toNatClampNeg) = (nI 40) → (w_X6_no (fun (z_29 : Int32) (ma_30 : Nat → Nat → Int32) => (post z_29 mi_3 ma_30)) (-4) mi_3 ma ml))))) ∧ (z_9 = 0 → (w_X6_pages_29 post x1 x2 ml mi_3 ma)))) ((x2).toInt64) (lN 1) (lN 99))))) ((x1).toInt64) (lN 0) (lN 9999)))
theorem b_X6_pages_29 {post : (Int32) → (Nat → Int32) → (Nat → Nat → Int32) → Prop}   {x1 : Int32} {x2 : Int32} {ml : Nat → Nat → Int64}  (hb : mOK b)   (mi : Nat → Int32) (ma : Nat → Nat → Int32) (hw : w_X6_pages_29 post x1 x2 ml mi ma) : VV l E X cX6_pages RX6 "pages" 3 r_X6_pages (some .int) (vpi (fun (r : Int32) (h' : AH) => ∃ (mi' : Nat → Int32) (ma' : Nat → Nat → Int32), h' = (mH b mi' ma' ml) ∧ post r mi' ma')) (mH b mi ma ml) 0 0 29 [(0, va_rf (some (b 0))), (1, .int x1), (2, .int x2)] [] := by
  refine v_aload_n (q := 0) dX6_pages_29 rfl rfl ?_
  refine v_bipush dX6_pages_30 bp_m3 ?_
  refine v_callV q1737 q1739 qs53 q113 q1740 (ci := 7) rfl (mH_obj hb) n_X6_no ⟨Nat.le_of_ble_eq_true rfl, Nat.le_of_ble_eq_true rfl⟩ [.int (-3)] [] (met_X6_no hb hw) rfl (Nat.zero_le _) ⟨Nat.le_refl _, Nat.le_refl _⟩ dX6_pages_32 rfl (v_ki (fun z_1 h1 hv => ?_))
  clear hw
  obtain ⟨ma_2, rfl, hw⟩ := hv
  exact v_iret dX6_pages_35 rfl ⟨_, rfl, _, _, rfl, hw⟩
theorem e_X6_pages {post : (Int32) → (Nat → Int32) → (Nat → Nat → Int32) → Prop}   {x1 : Int32} {x2 : Int32} {mi : Nat → Int32} {ma : Nat → Nat → Int32} {ml : Nat → Nat → Int64} (hb : mOK b)  (hw : w_X6_pages post  x1 x2 mi ma ml) : VV l E X cX6_pages RX6 "pages" 3 r_X6_pages (some .int) (vpi (fun (r : Int32) (h' : AH) => ∃ (mi' : Nat → Int32) (ma' : Nat → Nat → Int32), h' = (mH b mi' ma' ml) ∧ post r mi' ma')) (mH b mi ma ml) 0 0 0 [(0, va_rf (some (b 0))), (1, .int x1), (2, .int x2)] [] := by
  refine v_aload_n (q := 0) dX6_pages_0 rfl rfl ?_
  refine v_iconst dX6_pages_1 ic_0 ?_
  obtain ⟨mi_3, emi_3⟩ : ∃ z9 : Nat → Int32, z9 = upd mi 0 (nI 0) := ⟨_, rfl⟩
  replace hw := hw mi_3 emi_3
  refine vm_put hb 0 (Nat.le_of_ble_eq_true rfl) q1614 rfl rfl rfl dX6_pages_2 emi_3 rfl ?_
  refine v_iload_n (q := 1) dX6_pages_5 rfl rfl ?_
  refine v_i2l dX6_pages_6 ?_
  refine v_lconst (v := lN 0) dX6_pages_7 rfl ?_
  refine v_ldc2 (v := (lN 9999)) dX6_pages_8 q1743 ?_
  refine v_callS q1734 q1735 q113 q1736 n_X6_within ⟨Nat.le_of_ble_eq_true rfl, Nat.le_of_ble_eq_true rfl⟩ [.long ((x1).toInt64), .long (lN 0), .long (lN 9999)] [] (met_X6_within hw) rfl (Nat.zero_le _) ⟨Nat.le_refl _, Nat.le_refl _⟩ dX6_pages_11 rfl (v_ki (fun z_4 h1 hv => ?_))
  clear hw
  obtain ⟨e9, hw⟩ := hv
  refine v_heap e9 ?_
  clear e9
  obtain ⟨hw_7, hw_8⟩ := hw
  refine v_if_eq (tgt := 29) dX6_pages_14 (by decide) (fun c_5 => ?_) (fun c_6 => ?_)
  · have hw := hw_7 c_5
    refine v_sub [0, 1, 2] rfl ?_
    exact b_X6_pages_29 hb mi_3 ma hw
  · have hw := hw_8 c_6
    refine v_iload_n (q := 2) dX6_pages_17 rfl rfl ?_
    refine v_i2l dX6_pages_18 ?_
    refine v_lconst (v := lN 1) dX6_pages_19 rfl ?_
    refine v_ldc2 (v := (lN 99)) dX6_pages_20 q2069 ?_
    refine v_callS q1734 q1735 q113 q1736 n_X6_within ⟨Nat.le_of_ble_eq_true rfl, Nat.le_of_ble_eq_true rfl⟩ [.long ((x2).toInt64), .long (lN 1), .long (lN 99)] [] (met_X6_within hw) rfl (Nat.zero_le _) ⟨Nat.le_refl _, Nat.le_refl _⟩ dX6_pages_23 rfl (v_ki (fun z_9 h1 hv => ?_))
    clear hw
    obtain ⟨e9, hw⟩ := hv
    refine v_heap e9 ?_
    clear e9
    obtain ⟨hw_12, hw_13⟩ := hw
    refine v_if_ne (tgt := 36) dX6_pages_26 (by decide) (fun c_10 => ?_) (fun c_11 => ?_)
    · have hw := hw_12 c_10
      refine v_aload_n (q := 0) dX6_pages_36 rfl rfl ?_
      refine vm_get hb 2 (Nat.le_of_ble_eq_true rfl) q1616 rfl dX6_pages_37 rfl ?_
      refine v_sipush dX6_pages_40 sp_889 ?_
      obtain ⟨hi_14, hw⟩ := hw
      refine v_iald dX6_pages_43 (mH_ar2 hb) hi_14 ?_
      refine v_bipush dX6_pages_44 bp_40 ?_
      obtain ⟨hw_17, hw_18⟩ := hw
      refine v_icmp_ne (tgt := 56) dX6_pages_46 (by decide) (fun c_15 => ?_) (fun c_16 => ?_)
      · have hw := hw_17 c_15
        refine v_aload_n (q := 0) dX6_pages_56 rfl rfl ?_
        refine vm_get hb 2 (Nat.le_of_ble_eq_true rfl) q1616 rfl dX6_pages_57 rfl ?_
        refine v_sipush dX6_pages_60 sp_890 ?_
        refine v_aload_n (q := 0) dX6_pages_63 rfl rfl ?_
        refine vm_get hb 2 (Nat.le_of_ble_eq_true rfl) q1616 rfl dX6_pages_64 rfl ?_
        refine v_sipush dX6_pages_67 sp_889 ?_
        obtain ⟨hi_19, hw⟩ := hw
        refine v_iald dX6_pages_70 (mH_ar2 hb) hi_19 ?_
        refine v_iadd dX6_pages_71 ?_
        refine v_iload_n (q := 1) dX6_pages_72 rfl rfl ?_
        obtain ⟨hi_20, hw⟩ := hw
        obtain ⟨ma_21, ema_21⟩ : ∃ z9 : Nat → Nat → Int32, z9 = mup ma 2 (((nI 890) + (ma 2 ((nI 889)).toNatClampNeg))).toNatClampNeg x1 := ⟨_, rfl⟩
        replace hw := hw ma_21 ema_21
        refine v_iast dX6_pages_73 (mH_ar2 hb) hi_20 ?_
        refine v_heap (h' := mH b mi_3 ma_21 ml) (by rw [ema_21]; exact mH_st2 hb) ?_
        refine v_aload_n (q := 0) dX6_pages_74 rfl rfl ?_
        refine vm_get hb 2 (Nat.le_of_ble_eq_true rfl) q1616 rfl dX6_pages_75 rfl ?_
        refine v_sipush dX6_pages_78 sp_930 ?_
        refine v_aload_n (q := 0) dX6_pages_81 rfl rfl ?_
        refine vm_get hb 2 (Nat.le_of_ble_eq_true rfl) q1616 rfl dX6_pages_82 rfl ?_
        refine v_sipush dX6_pages_85 sp_889 ?_
        obtain ⟨hi_22, hw⟩ := hw
        refine v_iald dX6_pages_88 (mH_ar2 hb) hi_22 ?_
        refine v_iadd dX6_pages_89 ?_
        refine v_iload_n (q := 2) dX6_pages_90 rfl rfl ?_
        obtain ⟨hi_23, hw⟩ := hw
        obtain ⟨ma_24, ema_24⟩ : ∃ z9 : Nat → Nat → Int32, z9 = mup ma_21 2 (((nI 930) + (ma_21 2 ((nI 889)).toNatClampNeg))).toNatClampNeg x2 := ⟨_, rfl⟩
        replace hw := hw ma_24 ema_24
        refine v_iast dX6_pages_91 (mH_ar2 hb) hi_23 ?_
        refine v_heap (h' := mH b mi_3 ma_24 ml) (by rw [ema_24]; exact mH_st2 hb) ?_
        refine v_aload_n (q := 0) dX6_pages_92 rfl rfl ?_
        refine vm_get hb 2 (Nat.le_of_ble_eq_true rfl) q1616 rfl dX6_pages_93 rfl ?_
        refine v_sipush dX6_pages_96 sp_889 ?_
        refine v_dup2 dX6_pages_99 rfl (v_rf1 _) ?_
        obtain ⟨hi_25, hw⟩ := hw
        refine v_iald dX6_pages_100 (mH_ar2 hb) hi_25 ?_
        refine v_iconst dX6_pages_101 ic_1 ?_
        refine v_iadd dX6_pages_102 ?_
        obtain ⟨hi_26, hw⟩ := hw
        obtain ⟨ma_27, ema_27⟩ : ∃ z9 : Nat → Nat → Int32, z9 = mup ma_24 2 ((nI 889)).toNatClampNeg ((ma_24 2 ((nI 889)).toNatClampNeg) + (nI 1)) := ⟨_, rfl⟩
        replace hw := hw ma_27 ema_27
        refine v_iast dX6_pages_103 (mH_ar2 hb) hi_26 ?_
        refine v_heap (h' := mH b mi_3 ma_27 ml) (by rw [ema_27]; exact mH_st2 hb) ?_
        refine v_aload_n (q := 0) dX6_pages_104 rfl rfl ?_
        refine vm_get hb 2 (Nat.le_of_ble_eq_true rfl) q1616 rfl dX6_pages_105 rfl ?_
        refine v_sipush dX6_pages_108 sp_889 ?_
        obtain ⟨hi_28, hw⟩ := hw
        refine v_iald dX6_pages_111 (mH_ar2 hb) hi_28 ?_
        exact v_iret dX6_pages_112 rfl ⟨_, rfl, _, _, rfl, hw⟩
      · have hw := hw_18 c_16
        refine v_aload_n (q := 0) dX6_pages_49 rfl rfl ?_
        refine v_bipush dX6_pages_50 bp_m4 ?_
        refine v_callV q1737 q1739 qs53 q113 q1740 (ci := 7) rfl (mH_obj hb) n_X6_no ⟨Nat.le_of_ble_eq_true rfl, Nat.le_of_ble_eq_true rfl⟩ [.int (-4)] [] (met_X6_no hb hw) rfl (Nat.zero_le _) ⟨Nat.le_refl _, Nat.le_refl _⟩ dX6_pages_52 rfl (v_ki (fun z_29 h1 hv => ?_))
        clear hw
        obtain ⟨ma_30, rfl, hw⟩ := hv
        exact v_iret dX6_pages_55 rfl ⟨_, rfl, _, _, rfl, hw⟩
    · have hw := hw_13 c_11
      refine v_sub [0, 1, 2] rfl ?_
      exact b_X6_pages_29 hb mi_3 ma hw
theorem met_X6_pages {post : (Int32) → (Nat → Int32) → (Nat → Nat → Int32) → Prop}   {x1 : Int32} {x2 : Int32} {mi : Nat → Int32} {ma : Nat → Nat → Int32} {ml : Nat → Nat → Int64} (hb : mOK b)  (hw : w_X6_pages post  x1 x2 mi ma ml) : Mt l E yX6_pages (ws_ yX6_pages cX6_pages 3 (some .int)) r_X6_pages [va_rf (some (b 0)), .int x1, .int x2] (mH b mi ma ml) (vpi (fun (r : Int32) (h' : AH) => ∃ (mi' : Nat → Int32) (ma' : Nat → Nat → Int32), h' = (mH b mi' ma' ml) ∧ post r mi' ma')) := v_entry (by decide +kernel) (Nat.le_of_ble_eq_true rfl) rfl (fun _ => e_X6_pages hb hw)
/-! X6_pagesIn -/
abbrev r_X6_pagesIn : Room := { frames := 1, cells := 0, slots := 0, locals := 25 }
theorem n_X6_pagesIn : vdn yX6_pagesIn 2 := ⟨by decide +kernel, by decide +kernel, by decide +kernel⟩
def w_X6_pagesIn_56 (post : (Int32) → Prop) (k5 : (Int32) → (Int32) → Prop) (x1 : Int32) (x2 : Int32) (mi : Nat → Int32) (ma : Nat → Nat → Int32) (ml : Nat → Nat → Int64) (x4 : Int32) (s0 : Int32) (s1 : Int32) : Prop :=
 (∀ z_1 : Int32, z_1 = (s1 + s0) → (∀ z_2 : Int32, z_2 = x4 + (nI 1) → (k5 z_1 z_2)))
def w_X6_pagesIn_5 (post : (Int32) → Prop) (x1 : Int32) (x2 : Int32) (mi : Nat → Int32) (ma : Nat → Nat → Int32) (ml : Nat → Nat → Int64) : Nat → (Int32) → (Int32) → Prop
 | 0, _, _ => False
 | n0 + 1, x3, x4 =>
 (vp_in (nI 889) 3372 ∧ (((ma 2 ((nI 889)).toNatClampNeg) ≤ x4 → (post x3)) ∧ (¬ (ma 2 ((nI 889)).toNatClampNeg) ≤ x4 → (vp_in ((nI 890) + x4) 3372 ∧ (w_X6_within (fun (z_9 : Int32) => ((z_9 = 0 → (w_X6_pagesIn_56 post (fun (q0 : Int32) (q1 : Int32) => w_X6_pagesIn_5 post x1 x2 mi ma ml n0 q0 q1) x1 x2 mi ma ml x4 (nI 0) x3)) ∧ (¬ z_9 = 0 → (vp_in ((nI 930) + x4) 3372 ∧ (w_X6_pagesIn_56 post (fun (q0 : Int32) (q1 : Int32) => w_X6_pagesIn_5 post x1 x2 mi ma ml n0 q0 q1) x1 x2 mi ma ml x4 (ma 2 (((nI 930) + x4)).toNatClampNeg) x3))))) (((ma 2 (((nI 890) + x4)).toNatClampNeg)).toInt64) ((x1).toInt64) ((x2).toInt64))))))
def w_X6_pagesIn (post : (Int32) → Prop) (x1 : Int32) (x2 : Int32) (mi : Nat → Int32) (ma : Nat → Nat → Int32) (ml : Nat → Nat → Int64) : Prop :=
 (∃ n1 : Nat, (w_X6_pagesIn_5 post x1 x2 mi ma ml n1 (nI 0) (nI 0)))
theorem b_X6_pagesIn_56 {post : (Int32) → Prop}   {x1 : Int32} {x2 : Int32} {mi : Nat → Int32} {ma : Nat → Nat → Int32} {ml : Nat → Nat → Int64} {k5 : (Int32) → (Int32) → Prop} (hb : mOK b)  (hk5 : ∀ (x3 : Int32) (x4 : Int32), k5 x3 x4 → VV l E X cX6_pagesIn RX6 "pagesIn" 5 r_X6_pagesIn (some .int) (vpi (fun (r : Int32) (h' : AH) => h' = (mH b mi ma ml) ∧ post r)) (mH b mi ma ml) 0 0 5 [(0, va_rf (some (b 0))), (1, .int x1), (2, .int x2), (3, .int x3), (4, .int x4)] []) (x4 : Int32) (s0 : Int32) (s1 : Int32) (hw : w_X6_pagesIn_56 post k5 x1 x2 mi ma ml x4 s0 s1) : VV l E X cX6_pagesIn RX6 "pagesIn" 5 r_X6_pagesIn (some .int) (vpi (fun (r : Int32) (h' : AH) => h' = (mH b mi ma ml) ∧ post r)) (mH b mi ma ml) 0 0 56 [(0, va_rf (some (b 0))), (1, .int x1), (2, .int x2), (4, .int x4)] [.int s0, .int s1] := by
  refine v_iadd dX6_pagesIn_56 ?_
  refine v_topi (fun z_1 e_1 => ?_)
  replace hw := hw z_1 e_1
  refine v_istore_n (lv1 := [(3, .int z_1), (0, va_rf (some (b 0))), (1, .int x1), (2, .int x2), (4, .int x4)]) dX6_pagesIn_57 rfl (Nat.le_of_ble_eq_true rfl) rfl ?_
  obtain ⟨z_2, e_2⟩ : ∃ z9 : Int32, z9 = x4 + (nI 1) := ⟨_, rfl⟩
  replace hw := hw z_2 e_2
  refine v_iinc (q := 4) (v := z_2) (lv1 := [(4, .int z_2), (3, .int z_1), (0, va_rf (some (b 0))), (1, .int x1), (2, .int x2)]) dX6_pagesIn_58 rfl (by rw [e_2, ic_1]) (Nat.le_of_ble_eq_true rfl) rfl ?_
  refine v_goto (tgt := 5) dX6_pagesIn_61 (by decide) ?_
  refine v_sub [2, 3, 4, 1, 0] rfl ?_
  exact hk5 z_1 z_2 hw
theorem b_X6_pagesIn_5 {post : (Int32) → Prop}   {x1 : Int32} {x2 : Int32} {mi : Nat → Int32} {ma : Nat → Nat → Int32} {ml : Nat → Nat → Int64}  (hb : mOK b)   : ∀ (n0 : Nat) (x3 : Int32) (x4 : Int32), w_X6_pagesIn_5 post x1 x2 mi ma ml n0 x3 x4 → VV l E X cX6_pagesIn RX6 "pagesIn" 5 r_X6_pagesIn (some .int) (vpi (fun (r : Int32) (h' : AH) => h' = (mH b mi ma ml) ∧ post r)) (mH b mi ma ml) 0 0 5 [(0, va_rf (some (b 0))), (1, .int x1), (2, .int x2), (3, .int x3), (4, .int x4)] [] := by
  intro n0
  induction n0 with
  | zero =>
    intro x3 x4 hw
    exact hw.elim
  | succ n0 ih =>
    intro x3 x4 hw
    refine v_iload (q := 4) dX6_pagesIn_5 rfl ?_
    refine v_aload_n (q := 0) dX6_pagesIn_7 rfl rfl ?_
    refine vm_get hb 2 (Nat.le_of_ble_eq_true rfl) q1616 rfl dX6_pagesIn_8 rfl ?_
    refine v_sipush dX6_pagesIn_11 sp_889 ?_
    obtain ⟨hi_3, hw⟩ := hw
    refine v_iald dX6_pagesIn_14 (mH_ar2 hb) hi_3 ?_
    obtain ⟨hw_6, hw_7⟩ := hw
    refine v_icmp_ge (tgt := 64) dX6_pagesIn_15 (by decide) (fun c_4 => ?_) (fun c_5 => ?_)
    · have hw := hw_6 c_4
      refine v_iload_n (q := 3) dX6_pagesIn_64 rfl rfl ?_
      exact v_iret dX6_pagesIn_65 rfl ⟨_, rfl, rfl, hw⟩
    · have hw := hw_7 c_5
      refine v_iload_n (q := 3) dX6_pagesIn_18 rfl rfl ?_
      refine v_aload_n (q := 0) dX6_pagesIn_19 rfl rfl ?_
      refine vm_get hb 2 (Nat.le_of_ble_eq_true rfl) q1616 rfl dX6_pagesIn_20 rfl ?_
      refine v_sipush dX6_pagesIn_23 sp_890 ?_
      refine v_iload (q := 4) dX6_pagesIn_26 rfl ?_
      refine v_iadd dX6_pagesIn_28 ?_
      obtain ⟨hi_8, hw⟩ := hw
      refine v_iald dX6_pagesIn_29 (mH_ar2 hb) hi_8 ?_
      refine v_i2l dX6_pagesIn_30 ?_
      refine v_iload_n (q := 1) dX6_pagesIn_31 rfl rfl ?_
      refine v_i2l dX6_pagesIn_32 ?_
      refine v_iload_n (q := 2) dX6_pagesIn_33 rfl rfl ?_
      refine v_i2l dX6_pagesIn_34 ?_
      refine v_callS q1734 q1735 q113 q1736 n_X6_within ⟨Nat.le_of_ble_eq_true rfl, Nat.le_of_ble_eq_true rfl⟩ [.long (((ma 2 (((nI 890) + x4)).toNatClampNeg)).toInt64), .long ((x1).toInt64), .long ((x2).toInt64)] [.int x3] (met_X6_within hw) rfl (Nat.le_of_ble_eq_true rfl) ⟨Nat.le_refl _, Nat.le_refl _⟩ dX6_pagesIn_35 rfl (v_ki (fun z_9 h1 hv => ?_))
      clear hw
      obtain ⟨e9, hw⟩ := hv
      refine v_heap e9 ?_
      clear e9
      obtain ⟨hw_12, hw_13⟩ := hw
      refine v_if_eq (tgt := 55) dX6_pagesIn_38 (by decide) (fun c_10 => ?_) (fun c_11 => ?_)
      · have hw := hw_12 c_10
        refine v_iconst dX6_pagesIn_55 ic_0 ?_
        refine v_sub [0, 1, 2, 4] rfl ?_
        exact b_X6_pagesIn_56 hb (fun q0 q1 z => ih q0 q1 z) x4 (nI 0) x3 hw
      · have hw := hw_13 c_11
        refine v_aload_n (q := 0) dX6_pagesIn_41 rfl rfl ?_
        refine vm_get hb 2 (Nat.le_of_ble_eq_true rfl) q1616 rfl dX6_pagesIn_42 rfl ?_
        refine v_sipush dX6_pagesIn_45 sp_930 ?_
        refine v_iload (q := 4) dX6_pagesIn_48 rfl ?_
        refine v_iadd dX6_pagesIn_50 ?_
        obtain ⟨hi_14, hw⟩ := hw
        refine v_iald dX6_pagesIn_51 (mH_ar2 hb) hi_14 ?_
        refine v_goto (tgt := 56) dX6_pagesIn_52 (by decide) ?_
        refine v_sub [0, 1, 2, 4] rfl ?_
        exact b_X6_pagesIn_56 hb (fun q0 q1 z => ih q0 q1 z) x4 (ma 2 (((nI 930) + x4)).toNatClampNeg) x3 hw
theorem e_X6_pagesIn {post : (Int32) → Prop}   {x1 : Int32} {x2 : Int32} {mi : Nat → Int32} {ma : Nat → Nat → Int32} {ml : Nat → Nat → Int64} (hb : mOK b)  (hw : w_X6_pagesIn post  x1 x2 mi ma ml) : VV l E X cX6_pagesIn RX6 "pagesIn" 5 r_X6_pagesIn (some .int) (vpi (fun (r : Int32) (h' : AH) => h' = (mH b mi ma ml) ∧ post r)) (mH b mi ma ml) 0 0 0 [(0, va_rf (some (b 0))), (1, .int x1), (2, .int x2)] [] := by
  refine v_iconst dX6_pagesIn_0 ic_0 ?_
  refine v_istore_n (lv1 := [(3, .int (nI 0)), (0, va_rf (some (b 0))), (1, .int x1), (2, .int x2)]) dX6_pagesIn_1 rfl (Nat.le_of_ble_eq_true rfl) rfl ?_
  refine v_iconst dX6_pagesIn_2 ic_0 ?_
  refine v_istore (lv1 := [(4, .int (nI 0)), (3, .int (nI 0)), (0, va_rf (some (b 0))), (1, .int x1), (2, .int x2)]) dX6_pagesIn_3 (Nat.le_of_ble_eq_true rfl) rfl ?_
  obtain ⟨n_15, hw⟩ := hw
  refine v_sub [2, 3, 4, 1, 0] rfl ?_
  exact b_X6_pagesIn_5 hb n_15 (nI 0) (nI 0) hw
theorem met_X6_pagesIn {post : (Int32) → Prop}   {x1 : Int32} {x2 : Int32} {mi : Nat → Int32} {ma : Nat → Nat → Int32} {ml : Nat → Nat → Int64} (hb : mOK b)  (hw : w_X6_pagesIn post  x1 x2 mi ma ml) : Mt l E yX6_pagesIn (ws_ yX6_pagesIn cX6_pagesIn 5 (some .int)) r_X6_pagesIn [va_rf (some (b 0)), .int x1, .int x2] (mH b mi ma ml) (vpi (fun (r : Int32) (h' : AH) => h' = (mH b mi ma ml) ∧ post r)) := v_entry (by decide +kernel) (Nat.le_of_ble_eq_true rfl) rfl (fun _ => e_X6_pagesIn hb hw)
/-! X6_more -/
abbrev r_X6_more : Room := { frames := 2, cells := 0, slots := 0, locals := 49 }
theorem n_X6_more : vdn yX6_more 2 := ⟨by decide +kernel, by decide +kernel, by decide +kernel⟩
def w_X6_more_121 (post : (Int32) → (Nat → Int32) → (Nat → Nat → Int32) → Prop) (k50 : (Int32) → (Int32) → (Nat → Int32) → (Nat → Nat → Int32) → Prop) (x1 : Int32) (x2 : Int32) (ml : Nat → Nat → Int64) (x4 : Int32) (s0 : Int32) (s1 : Int32) (mi : Nat → Int32) (ma : Nat → Nat → Int32) : Prop :=
 (∀ z_1 : Int32, z_1 = (s1 + s0) → (∀ z_2 : Int32, z_2 = x4 + (nI 1) → (k50 z_1 z_2 mi ma)))
def w_X6_more_50 (post : (Int32) → (Nat → Int32) → (Nat → Nat → Int32) → Prop) (x1 : Int32) (x2 : Int32) (ml : Nat → Nat → Int64) : Nat → (Int32) → (Int32) → (Nat → Int32) → (Nat → Nat → Int32) → Prop
 | 0, _, _, _, _ => False
 | n0 + 1, x3, x4, mi, ma =>
 (vp_in (nI 848) 3372 ∧ (((ma 2 ((nI 848)).toNatClampNeg) ≤ x4 → (post x3 mi ma)) ∧ (¬ (ma 2 ((nI 848)).toNatClampNeg) ≤ x4 → (vp_in ((nI 849) + x4) 3372 ∧ (∀ z_9 : Int32, z_9 = (ma 2 (((nI 849) + x4)).toNatClampNeg) → ((¬ x1 = (nI 1) → (w_X6_pagesIn (fun (z_14 : Int32) => (w_X6_pagesIn (fun (z_15 : Int32) => (w_X6_more_121 post (fun (q0 : Int32) (q1 : Int32) (q2 : Nat → Int32) (q3 : Nat → Nat → Int32) => w_X6_more_50 post x1 x2 ml n0 q0 q1 q2 q3) x1 x2 ml x4 (z_14 - z_15) x3 mi ma)) (z_9 - x2) (z_9 - (nI 1)) mi ma ml)) (z_9 + (nI 1)) (z_9 + x2) mi ma ml)) ∧ (x1 = (nI 1) → (vp_in ((nI 869) + x4) 3372 ∧ (w_X6_more_121 post (fun (q0 : Int32) (q1 : Int32) (q2 : Nat → Int32) (q3 : Nat → Nat → Int32) => w_X6_more_50 post x1 x2 ml n0 q0 q1 q2 q3) x1 x2 ml x4 (ma 2 (((nI 869) + x4)).toNatClampNeg) x3 mi ma)))))))))
def w_X6_more_45 (post : (Int32) → (Nat → Int32) → (Nat → Nat → Int32) → Prop) (x1 : Int32) (x2 : Int32) (ml : Nat → Nat → Int64) (mi : Nat → Int32) (ma : Nat → Nat → Int32) : Prop :=
 (∃ n1 : Nat, (w_X6_more_50 post x1 x2 ml n1 (nI 0) (nI 0) mi ma))
def w_X6_more (post : (Int32) → (Nat → Int32) → (Nat → Nat → Int32) → Prop) (x1 : Int32) (x2 : Int32) (mi : Nat → Int32) (ma : Nat → Nat → Int32) (ml : Nat → Nat → Int64) : Prop :=
 (∀ mi_18 : Nat → Int32, mi_18 = upd mi 0 (nI 0) → (w_X6_within (fun (z_19 : Int32) => ((¬ z_19 = 0 → ((¬ x1 = 0 → (w_X6_more_45 post x1 x2 ml mi_18 ma)) ∧ (x1 = 0 → (w_X6_within (fun (z_28 : Int32) => ((¬ z_28 = 0 → (w_X6_more_45 post x1 x2 ml mi_18 ma)) ∧ (z_28 = 0 → (w_X6_no (fun (z_33 : Int32) (ma_34 : Nat → Nat → Int32) => (post z_33 mi_18 ma_34)) (-3) mi_18 ma ml)))) ((x2).toInt64) (lN 1) (lN 999))))) ∧ (z_19 = 0 → (w_X6_no (fun (z_35 : Int32) (ma_36 : Nat → Nat → Int32) => (post z_35 mi_18 ma_36)) (-2) mi_18 ma ml)))) ((x1).toInt64) (lN 0) (lN 1)))
theorem b_X6_more_121 {post : (Int32) → (Nat → Int32) → (Nat → Nat → Int32) → Prop}   {x1 : Int32} {x2 : Int32} {ml : Nat → Nat → Int64} {k50 : (Int32) → (Int32) → (Nat → Int32) → (Nat → Nat → Int32) → Prop} (hb : mOK b)  (hk50 : ∀ (x3 : Int32) (x4 : Int32) (mi : Nat → Int32) (ma : Nat → Nat → Int32), k50 x3 x4 mi ma → VV l E X cX6_more RX6 "more" 6 r_X6_more (some .int) (vpi (fun (r : Int32) (h' : AH) => ∃ (mi' : Nat → Int32) (ma' : Nat → Nat → Int32), h' = (mH b mi' ma' ml) ∧ post r mi' ma')) (mH b mi ma ml) 0 0 50 [(0, va_rf (some (b 0))), (1, .int x1), (2, .int x2), (3, .int x3), (4, .int x4)] []) (x4 : Int32) (s0 : Int32) (s1 : Int32) (mi : Nat → Int32) (ma : Nat → Nat → Int32) (hw : w_X6_more_121 post k50 x1 x2 ml x4 s0 s1 mi ma) : VV l E X cX6_more RX6 "more" 6 r_X6_more (some .int) (vpi (fun (r : Int32) (h' : AH) => ∃ (mi' : Nat → Int32) (ma' : Nat → Nat → Int32), h' = (mH b mi' ma' ml) ∧ post r mi' ma')) (mH b mi ma ml) 0 0 121 [(0, va_rf (some (b 0))), (1, .int x1), (2, .int x2), (4, .int x4)] [.int s0, .int s1] := by
  refine v_iadd dX6_more_121 ?_
  refine v_topi (fun z_1 e_1 => ?_)
  replace hw := hw z_1 e_1
  refine v_istore_n (lv1 := [(3, .int z_1), (0, va_rf (some (b 0))), (1, .int x1), (2, .int x2), (4, .int x4)]) dX6_more_122 rfl (Nat.le_of_ble_eq_true rfl) rfl ?_
  obtain ⟨z_2, e_2⟩ : ∃ z9 : Int32, z9 = x4 + (nI 1) := ⟨_, rfl⟩
  replace hw := hw z_2 e_2
  refine v_iinc (q := 4) (v := z_2) (lv1 := [(4, .int z_2), (3, .int z_1), (0, va_rf (some (b 0))), (1, .int x1), (2, .int x2)]) dX6_more_123 rfl (by rw [e_2, ic_1]) (Nat.le_of_ble_eq_true rfl) rfl ?_
  refine v_goto (tgt := 50) dX6_more_126 (by decide) ?_
  refine v_sub [2, 3, 4, 1, 0] rfl ?_
  exact hk50 z_1 z_2 mi ma hw
theorem b_X6_more_50 {post : (Int32) → (Nat → Int32) → (Nat → Nat → Int32) → Prop}   {x1 : Int32} {x2 : Int32} {ml : Nat → Nat → Int64}  (hb : mOK b)   : ∀ (n0 : Nat) (x3 : Int32) (x4 : Int32) (mi : Nat → Int32) (ma : Nat → Nat → Int32), w_X6_more_50 post x1 x2 ml n0 x3 x4 mi ma → VV l E X cX6_more RX6 "more" 6 r_X6_more (some .int) (vpi (fun (r : Int32) (h' : AH) => ∃ (mi' : Nat → Int32) (ma' : Nat → Nat → Int32), h' = (mH b mi' ma' ml) ∧ post r mi' ma')) (mH b mi ma ml) 0 0 50 [(0, va_rf (some (b 0))), (1, .int x1), (2, .int x2), (3, .int x3), (4, .int x4)] [] := by
  intro n0
  induction n0 with
  | zero =>
    intro x3 x4 mi ma hw
    exact hw.elim
  | succ n0 ih =>
    intro x3 x4 mi ma hw
    refine v_iload (q := 4) dX6_more_50 rfl ?_
    refine v_aload_n (q := 0) dX6_more_52 rfl rfl ?_
    refine vm_get hb 2 (Nat.le_of_ble_eq_true rfl) q1616 rfl dX6_more_53 rfl ?_
    refine v_sipush dX6_more_56 sp_848 ?_
    obtain ⟨hi_3, hw⟩ := hw
    refine v_iald dX6_more_59 (mH_ar2 hb) hi_3 ?_
    obtain ⟨hw_6, hw_7⟩ := hw
    refine v_icmp_ge (tgt := 129) dX6_more_60 (by decide) (fun c_4 => ?_) (fun c_5 => ?_)
    · have hw := hw_6 c_4
      refine v_iload_n (q := 3) dX6_more_129 rfl rfl ?_
      exact v_iret dX6_more_130 rfl ⟨_, rfl, _, _, rfl, hw⟩
    · have hw := hw_7 c_5
      refine v_aload_n (q := 0) dX6_more_63 rfl rfl ?_
      refine vm_get hb 2 (Nat.le_of_ble_eq_true rfl) q1616 rfl dX6_more_64 rfl ?_
      refine v_sipush dX6_more_67 sp_849 ?_
      refine v_iload (q := 4) dX6_more_70 rfl ?_
      refine v_iadd dX6_more_72 ?_
      obtain ⟨hi_8, hw⟩ := hw
      refine v_iald dX6_more_73 (mH_ar2 hb) hi_8 ?_
      refine v_topi (fun z_9 e_9 => ?_)
      replace hw := hw z_9 e_9
      refine v_istore (lv1 := [(5, .int z_9), (0, va_rf (some (b 0))), (1, .int x1), (2, .int x2), (3, .int x3), (4, .int x4)]) dX6_more_74 (Nat.le_of_ble_eq_true rfl) rfl ?_
      refine v_iload_n (q := 4) dX6_more_76 rfl rfl ?_
      refine v_iload_n (q := 2) dX6_more_77 rfl rfl ?_
      refine v_iconst dX6_more_78 ic_1 ?_
      obtain ⟨hw_12, hw_13⟩ := hw
      refine v_icmp_ne (tgt := 96) dX6_more_79 (by decide) (fun c_10 => ?_) (fun c_11 => ?_)
      · have hw := hw_12 c_10
        refine v_aload_n (q := 1) dX6_more_96 rfl rfl ?_
        refine v_iload (q := 0) dX6_more_97 rfl ?_
        refine v_iconst dX6_more_99 ic_1 ?_
        refine v_iadd dX6_more_100 ?_
        refine v_iload (q := 0) dX6_more_101 rfl ?_
        refine v_iload_n (q := 3) dX6_more_103 rfl rfl ?_
        refine v_iadd dX6_more_104 ?_
        refine v_callV q2074 q2076 qs95 q113 q2077 (ci := 7) rfl (mH_obj hb) n_X6_pagesIn ⟨Nat.le_of_ble_eq_true rfl, Nat.le_of_ble_eq_true rfl⟩ [.int (z_9 + (nI 1)), .int (z_9 + x2)] [.int x3] (met_X6_pagesIn hb hw) rfl (Nat.le_of_ble_eq_true rfl) ⟨Nat.le_refl _, Nat.le_refl _⟩ dX6_more_105 rfl (v_ki (fun z_14 h1 hv => ?_))
        clear hw
        obtain ⟨e9, hw⟩ := hv
        refine v_heap e9 ?_
        clear e9
        refine v_aload_n (q := 1) dX6_more_108 rfl rfl ?_
        refine v_iload (q := 0) dX6_more_109 rfl ?_
        refine v_iload_n (q := 3) dX6_more_111 rfl rfl ?_
        refine v_isub dX6_more_112 ?_
        refine v_iload (q := 0) dX6_more_113 rfl ?_
        refine v_iconst dX6_more_115 ic_1 ?_
        refine v_isub dX6_more_116 ?_
        refine v_callV q2074 q2076 qs95 q113 q2077 (ci := 7) rfl (mH_obj hb) n_X6_pagesIn ⟨Nat.le_of_ble_eq_true rfl, Nat.le_of_ble_eq_true rfl⟩ [.int (z_9 - x2), .int (z_9 - (nI 1))] [.int z_14, .int x3] (met_X6_pagesIn hb hw) rfl (Nat.le_of_ble_eq_true rfl) ⟨Nat.le_refl _, Nat.le_refl _⟩ dX6_more_117 rfl (v_ki (fun z_15 h1 hv => ?_))
        clear hw
        obtain ⟨e9, hw⟩ := hv
        refine v_heap e9 ?_
        clear e9
        refine v_isub dX6_more_120 ?_
        refine v_sub [1, 2, 3, 5] rfl ?_
        exact b_X6_more_121 hb (fun q0 q1 q2 q3 z => ih q0 q1 q2 q3 z) x4 (z_14 - z_15) x3 mi ma hw
      · have hw := hw_13 c_11
        refine v_aload_n (q := 1) dX6_more_82 rfl rfl ?_
        refine vm_get hb 2 (Nat.le_of_ble_eq_true rfl) q1616 rfl dX6_more_83 rfl ?_
        refine v_sipush dX6_more_86 sp_869 ?_
        refine v_iload (q := 5) dX6_more_89 rfl ?_
        refine v_iadd dX6_more_91 ?_
        obtain ⟨hi_16, hw⟩ := hw
        refine v_iald dX6_more_92 (mH_ar2 hb) hi_16 ?_
        refine v_goto (tgt := 121) dX6_more_93 (by decide) ?_
        refine v_sub [1, 2, 3, 5] rfl ?_
        exact b_X6_more_121 hb (fun q0 q1 q2 q3 z => ih q0 q1 q2 q3 z) x4 (ma 2 (((nI 869) + x4)).toNatClampNeg) x3 mi ma hw
theorem b_X6_more_45 {post : (Int32) → (Nat → Int32) → (Nat → Nat → Int32) → Prop}   {x1 : Int32} {x2 : Int32} {ml : Nat → Nat → Int64}  (hb : mOK b)   (mi : Nat → Int32) (ma : Nat → Nat → Int32) (hw : w_X6_more_45 post x1 x2 ml mi ma) : VV l E X cX6_more RX6 "more" 6 r_X6_more (some .int) (vpi (fun (r : Int32) (h' : AH) => ∃ (mi' : Nat → Int32) (ma' : Nat → Nat → Int32), h' = (mH b mi' ma' ml) ∧ post r mi' ma')) (mH b mi ma ml) 0 0 45 [(0, va_rf (some (b 0))), (1, .int x1), (2, .int x2)] [] := by
  refine v_iconst dX6_more_45 ic_0 ?_
  refine v_istore_n (lv1 := [(3, .int (nI 0)), (0, va_rf (some (b 0))), (1, .int x1), (2, .int x2)]) dX6_more_46 rfl (Nat.le_of_ble_eq_true rfl) rfl ?_
  refine v_iconst dX6_more_47 ic_0 ?_
  refine v_istore (lv1 := [(4, .int (nI 0)), (3, .int (nI 0)), (0, va_rf (some (b 0))), (1, .int x1), (2, .int x2)]) dX6_more_48 (Nat.le_of_ble_eq_true rfl) rfl ?_
  obtain ⟨n_17, hw⟩ := hw
  refine v_sub [2, 3, 4, 1, 0] rfl ?_
  exact b_X6_more_50 hb n_17 (nI 0) (nI 0) mi ma hw
theorem e_X6_more {post : (Int32) → (Nat → Int32) → (Nat → Nat → Int32) → Prop}   {x1 : Int32} {x2 : Int32} {mi : Nat → Int32} {ma : Nat → Nat → Int32} {ml : Nat → Nat → Int64} (hb : mOK b)  (hw : w_X6_more post  x1 x2 mi ma ml) : VV l E X cX6_more RX6 "more" 6 r_X6_more (some .int) (vpi (fun (r : Int32) (h' : AH) => ∃ (mi' : Nat → Int32) (ma' : Nat → Nat → Int32), h' = (mH b mi' ma' ml) ∧ post r mi' ma')) (mH b mi ma ml) 0 0 0 [(0, va_rf (some (b 0))), (1, .int x1), (2, .int x2)] [] := by
  refine v_aload_n (q := 0) dX6_more_0 rfl rfl ?_
  refine v_iconst dX6_more_1 ic_0 ?_
  obtain ⟨mi_18, emi_18⟩ : ∃ z9 : Nat → Int32, z9 = upd mi 0 (nI 0) := ⟨_, rfl⟩
  replace hw := hw mi_18 emi_18
  refine vm_put hb 0 (Nat.le_of_ble_eq_true rfl) q1614 rfl rfl rfl dX6_more_2 emi_18 rfl ?_
  refine v_iload_n (q := 1) dX6_more_5 rfl rfl ?_
  refine v_i2l dX6_more_6 ?_
  refine v_lconst (v := lN 0) dX6_more_7 rfl ?_
  refine v_lconst (v := lN 1) dX6_more_8 rfl ?_
  refine v_callS q1734 q1735 q113 q1736 n_X6_within ⟨Nat.le_of_ble_eq_true rfl, Nat.le_of_ble_eq_true rfl⟩ [.long ((x1).toInt64), .long (lN 0), .long (lN 1)] [] (met_X6_within hw) rfl (Nat.zero_le _) ⟨Nat.le_refl _, Nat.le_refl _⟩ dX6_more_9 rfl (v_ki (fun z_19 h1 hv => ?_))
  clear hw
  obtain ⟨e9, hw⟩ := hv
  refine v_heap e9 ?_
  clear e9
  obtain ⟨hw_22, hw_23⟩ := hw
  refine v_if_ne (tgt := 22) dX6_more_12 (by decide) (fun c_20 => ?_) (fun c_21 => ?_)
  · have hw := hw_22 c_20
    refine v_iload_n (q := 1) dX6_more_22 rfl rfl ?_
    obtain ⟨hw_26, hw_27⟩ := hw
    refine v_if_ne (tgt := 45) dX6_more_23 (by decide) (fun c_24 => ?_) (fun c_25 => ?_)
    · have hw := hw_26 c_24
      refine v_sub [0, 1, 2] rfl ?_
      exact b_X6_more_45 hb mi_18 ma hw
    · have hw := hw_27 c_25
      refine v_iload_n (q := 2) dX6_more_26 rfl rfl ?_
      refine v_i2l dX6_more_27 ?_
      refine v_lconst (v := lN 1) dX6_more_28 rfl ?_
      refine v_ldc2 (v := (lN 999)) dX6_more_29 q2064 ?_
      refine v_callS q1734 q1735 q113 q1736 n_X6_within ⟨Nat.le_of_ble_eq_true rfl, Nat.le_of_ble_eq_true rfl⟩ [.long ((x2).toInt64), .long (lN 1), .long (lN 999)] [] (met_X6_within hw) rfl (Nat.zero_le _) ⟨Nat.le_refl _, Nat.le_refl _⟩ dX6_more_32 rfl (v_ki (fun z_28 h1 hv => ?_))
      clear hw
      obtain ⟨e9, hw⟩ := hv
      refine v_heap e9 ?_
      clear e9
      obtain ⟨hw_31, hw_32⟩ := hw
      refine v_if_ne (tgt := 45) dX6_more_35 (by decide) (fun c_29 => ?_) (fun c_30 => ?_)
      · have hw := hw_31 c_29
        refine v_sub [0, 1, 2] rfl ?_
        exact b_X6_more_45 hb mi_18 ma hw
      · have hw := hw_32 c_30
        refine v_aload_n (q := 0) dX6_more_38 rfl rfl ?_
        refine v_bipush dX6_more_39 bp_m3 ?_
        refine v_callV q1737 q1739 qs53 q113 q1740 (ci := 7) rfl (mH_obj hb) n_X6_no ⟨Nat.le_of_ble_eq_true rfl, Nat.le_of_ble_eq_true rfl⟩ [.int (-3)] [] (met_X6_no hb hw) rfl (Nat.zero_le _) ⟨Nat.le_refl _, Nat.le_refl _⟩ dX6_more_41 rfl (v_ki (fun z_33 h1 hv => ?_))
        clear hw
        obtain ⟨ma_34, rfl, hw⟩ := hv
        exact v_iret dX6_more_44 rfl ⟨_, rfl, _, _, rfl, hw⟩
  · have hw := hw_23 c_21
    refine v_aload_n (q := 0) dX6_more_15 rfl rfl ?_
    refine v_bipush dX6_more_16 bp_m2 ?_
    refine v_callV q1737 q1739 qs53 q113 q1740 (ci := 7) rfl (mH_obj hb) n_X6_no ⟨Nat.le_of_ble_eq_true rfl, Nat.le_of_ble_eq_true rfl⟩ [.int (-2)] [] (met_X6_no hb hw) rfl (Nat.zero_le _) ⟨Nat.le_refl _, Nat.le_refl _⟩ dX6_more_18 rfl (v_ki (fun z_35 h1 hv => ?_))
    clear hw
    obtain ⟨ma_36, rfl, hw⟩ := hv
    exact v_iret dX6_more_21 rfl ⟨_, rfl, _, _, rfl, hw⟩
theorem met_X6_more {post : (Int32) → (Nat → Int32) → (Nat → Nat → Int32) → Prop}   {x1 : Int32} {x2 : Int32} {mi : Nat → Int32} {ma : Nat → Nat → Int32} {ml : Nat → Nat → Int64} (hb : mOK b)  (hw : w_X6_more post  x1 x2 mi ma ml) : Mt l E yX6_more (ws_ yX6_more cX6_more 6 (some .int)) r_X6_more [va_rf (some (b 0)), .int x1, .int x2] (mH b mi ma ml) (vpi (fun (r : Int32) (h' : AH) => ∃ (mi' : Nat → Int32) (ma' : Nat → Nat → Int32), h' = (mH b mi' ma' ml) ∧ post r mi' ma')) := v_entry (by decide +kernel) (Nat.le_of_ble_eq_true rfl) rfl (fun _ => e_X6_more hb hw)
/-! X6_free -/
abbrev r_X6_free : Room := { frames := 1, cells := 0, slots := 0, locals := 25 }
theorem n_X6_free : vdn yX6_free 2 := ⟨by decide +kernel, by decide +kernel, by decide +kernel⟩
def w_X6_free_30 (post : (Int32) → (Nat → Int32) → (Nat → Nat → Int32) → Prop) (x1 : Int32) (x2 : Int32) (ml : Nat → Nat → Int64) (mi : Nat → Int32) (ma : Nat → Nat → Int32) : Prop :=
 (w_X6_no (fun (z_1 : Int32) (ma_2 : Nat → Nat → Int32) => (post z_1 mi ma_2)) (-3) mi ma ml)
def w_X6_free (post : (Int32) → (Nat → Int32) → (Nat → Nat → Int32) → Prop) (x1 : Int32) (x2 : Int32) (mi : Nat → Int32) (ma : Nat → Nat → Int32) (ml : Nat → Nat → Int64) : Prop :=
 (∀ mi_3 : Nat → Int32, mi_3 = upd mi 0 (nI 0) → (w_X6_within (fun (z_4 : Int32) => ((z_4 = 0 → (w_X6_free_30 post x1 x2 ml mi_3 ma)) ∧ (¬ z_4 = 0 → (w_X6_within (fun (z_9 : Int32) => ((¬ z_9 = 0 → (vp_in (nI 970) 3372 ∧ ((¬ (ma 2 ((nI 970)).toNatClampNeg) = (nI 8) → (vp_in (nI 970) 3372 ∧ (vp_in ((nI 971) + (ma 2 ((nI 970)).toNatClampNeg)) 3372 ∧ ∀ ma_21 : Nat → Nat → Int32, ma_21 = mup ma 2 (((nI 971) + (ma 2 ((nI 970)).toNatClampNeg))).toNatClampNeg x1 → (vp_in (nI 970) 3372 ∧ (vp_in ((nI 979) + (ma_21 2 ((nI 970)).toNatClampNeg)) 3372 ∧ ∀ ma_24 : Nat → Nat → Int32, ma_24 = mup ma_21 2 (((nI 979) + (ma_21 2 ((nI 970)).toNatClampNeg))).toNatClampNeg x2 → (vp_in (nI 970) 3372 ∧ (vp_in (nI 970) 3372 ∧ ∀ ma_27 : Nat → Nat → Int32, ma_27 = mup ma_24 2 ((nI 970)).toNatClampNeg ((ma_24 2 ((nI 970)).toNatClampNeg) + (nI 1)) → (vp_in (nI 970) 3372 ∧ (post (ma_27 2 ((nI 970)).toNatClampNeg) mi_3 ma_27))))))))) ∧ ((ma 2 ((nI 970)).toNatClampNeg) = (nI 8) → (w_X6_no (fun (z_29 : Int32) (ma_30 : Nat → Nat → Int32) => (post z_29 mi_3 ma_30)) (-4) mi_3 ma ml))))) ∧ (z_9 = 0 → (w_X6_free_30 post x1 x2 ml mi_3 ma)))) ((x2).toInt64) ((x1).toInt64) (lN 9999))))) ((x1).toInt64) (lN 0) (lN 9999)))
theorem b_X6_free_30 {post : (Int32) → (Nat → Int32) → (Nat → Nat → Int32) → Prop}   {x1 : Int32} {x2 : Int32} {ml : Nat → Nat → Int64}  (hb : mOK b)   (mi : Nat → Int32) (ma : Nat → Nat → Int32) (hw : w_X6_free_30 post x1 x2 ml mi ma) : VV l E X cX6_free RX6 "free" 3 r_X6_free (some .int) (vpi (fun (r : Int32) (h' : AH) => ∃ (mi' : Nat → Int32) (ma' : Nat → Nat → Int32), h' = (mH b mi' ma' ml) ∧ post r mi' ma')) (mH b mi ma ml) 0 0 30 [(0, va_rf (some (b 0))), (1, .int x1), (2, .int x2)] [] := by
  refine v_aload_n (q := 0) dX6_free_30 rfl rfl ?_
  refine v_bipush dX6_free_31 bp_m3 ?_
  refine v_callV q1737 q1739 qs53 q113 q1740 (ci := 7) rfl (mH_obj hb) n_X6_no ⟨Nat.le_of_ble_eq_true rfl, Nat.le_of_ble_eq_true rfl⟩ [.int (-3)] [] (met_X6_no hb hw) rfl (Nat.zero_le _) ⟨Nat.le_refl _, Nat.le_refl _⟩ dX6_free_33 rfl (v_ki (fun z_1 h1 hv => ?_))
  clear hw
  obtain ⟨ma_2, rfl, hw⟩ := hv
  exact v_iret dX6_free_36 rfl ⟨_, rfl, _, _, rfl, hw⟩
theorem e_X6_free {post : (Int32) → (Nat → Int32) → (Nat → Nat → Int32) → Prop}   {x1 : Int32} {x2 : Int32} {mi : Nat → Int32} {ma : Nat → Nat → Int32} {ml : Nat → Nat → Int64} (hb : mOK b)  (hw : w_X6_free post  x1 x2 mi ma ml) : VV l E X cX6_free RX6 "free" 3 r_X6_free (some .int) (vpi (fun (r : Int32) (h' : AH) => ∃ (mi' : Nat → Int32) (ma' : Nat → Nat → Int32), h' = (mH b mi' ma' ml) ∧ post r mi' ma')) (mH b mi ma ml) 0 0 0 [(0, va_rf (some (b 0))), (1, .int x1), (2, .int x2)] [] := by
  refine v_aload_n (q := 0) dX6_free_0 rfl rfl ?_
  refine v_iconst dX6_free_1 ic_0 ?_
  obtain ⟨mi_3, emi_3⟩ : ∃ z9 : Nat → Int32, z9 = upd mi 0 (nI 0) := ⟨_, rfl⟩
  replace hw := hw mi_3 emi_3
  refine vm_put hb 0 (Nat.le_of_ble_eq_true rfl) q1614 rfl rfl rfl dX6_free_2 emi_3 rfl ?_
  refine v_iload_n (q := 1) dX6_free_5 rfl rfl ?_
  refine v_i2l dX6_free_6 ?_
  refine v_lconst (v := lN 0) dX6_free_7 rfl ?_
  refine v_ldc2 (v := (lN 9999)) dX6_free_8 q1743 ?_
  refine v_callS q1734 q1735 q113 q1736 n_X6_within ⟨Nat.le_of_ble_eq_true rfl, Nat.le_of_ble_eq_true rfl⟩ [.long ((x1).toInt64), .long (lN 0), .long (lN 9999)] [] (met_X6_within hw) rfl (Nat.zero_le _) ⟨Nat.le_refl _, Nat.le_refl _⟩ dX6_free_11 rfl (v_ki (fun z_4 h1 hv => ?_))
  clear hw
  obtain ⟨e9, hw⟩ := hv
  refine v_heap e9 ?_
  clear e9
  obtain ⟨hw_7, hw_8⟩ := hw
  refine v_if_eq (tgt := 30) dX6_free_14 (by decide) (fun c_5 => ?_) (fun c_6 => ?_)
  · have hw := hw_7 c_5
    refine v_sub [0, 1, 2] rfl ?_
    exact b_X6_free_30 hb mi_3 ma hw
  · have hw := hw_8 c_6
    refine v_iload_n (q := 2) dX6_free_17 rfl rfl ?_
    refine v_i2l dX6_free_18 ?_
    refine v_iload_n (q := 1) dX6_free_19 rfl rfl ?_
    refine v_i2l dX6_free_20 ?_
    refine v_ldc2 (v := (lN 9999)) dX6_free_21 q1743 ?_
    refine v_callS q1734 q1735 q113 q1736 n_X6_within ⟨Nat.le_of_ble_eq_true rfl, Nat.le_of_ble_eq_true rfl⟩ [.long ((x2).toInt64), .long ((x1).toInt64), .long (lN 9999)] [] (met_X6_within hw) rfl (Nat.zero_le _) ⟨Nat.le_refl _, Nat.le_refl _⟩ dX6_free_24 rfl (v_ki (fun z_9 h1 hv => ?_))
    clear hw
    obtain ⟨e9, hw⟩ := hv
    refine v_heap e9 ?_
    clear e9
    obtain ⟨hw_12, hw_13⟩ := hw
    refine v_if_ne (tgt := 37) dX6_free_27 (by decide) (fun c_10 => ?_) (fun c_11 => ?_)
    · have hw := hw_12 c_10
      refine v_aload_n (q := 0) dX6_free_37 rfl rfl ?_
      refine vm_get hb 2 (Nat.le_of_ble_eq_true rfl) q1616 rfl dX6_free_38 rfl ?_
      refine v_sipush dX6_free_41 sp_970 ?_
      obtain ⟨hi_14, hw⟩ := hw
      refine v_iald dX6_free_44 (mH_ar2 hb) hi_14 ?_
      refine v_bipush dX6_free_45 bp_8 ?_
      obtain ⟨hw_17, hw_18⟩ := hw
      refine v_icmp_ne (tgt := 57) dX6_free_47 (by decide) (fun c_15 => ?_) (fun c_16 => ?_)
      · have hw := hw_17 c_15
        refine v_aload_n (q := 0) dX6_free_57 rfl rfl ?_
        refine vm_get hb 2 (Nat.le_of_ble_eq_true rfl) q1616 rfl dX6_free_58 rfl ?_
        refine v_sipush dX6_free_61 sp_971 ?_
        refine v_aload_n (q := 0) dX6_free_64 rfl rfl ?_
        refine vm_get hb 2 (Nat.le_of_ble_eq_true rfl) q1616 rfl dX6_free_65 rfl ?_
        refine v_sipush dX6_free_68 sp_970 ?_
        obtain ⟨hi_19, hw⟩ := hw
        refine v_iald dX6_free_71 (mH_ar2 hb) hi_19 ?_
        refine v_iadd dX6_free_72 ?_
        refine v_iload_n (q := 1) dX6_free_73 rfl rfl ?_
        obtain ⟨hi_20, hw⟩ := hw
        obtain ⟨ma_21, ema_21⟩ : ∃ z9 : Nat → Nat → Int32, z9 = mup ma 2 (((nI 971) + (ma 2 ((nI 970)).toNatClampNeg))).toNatClampNeg x1 := ⟨_, rfl⟩
        replace hw := hw ma_21 ema_21
        refine v_iast dX6_free_74 (mH_ar2 hb) hi_20 ?_
        refine v_heap (h' := mH b mi_3 ma_21 ml) (by rw [ema_21]; exact mH_st2 hb) ?_
        refine v_aload_n (q := 0) dX6_free_75 rfl rfl ?_
        refine vm_get hb 2 (Nat.le_of_ble_eq_true rfl) q1616 rfl dX6_free_76 rfl ?_
        refine v_sipush dX6_free_79 sp_979 ?_
        refine v_aload_n (q := 0) dX6_free_82 rfl rfl ?_
        refine vm_get hb 2 (Nat.le_of_ble_eq_true rfl) q1616 rfl dX6_free_83 rfl ?_
        refine v_sipush dX6_free_86 sp_970 ?_
        obtain ⟨hi_22, hw⟩ := hw
        refine v_iald dX6_free_89 (mH_ar2 hb) hi_22 ?_
        refine v_iadd dX6_free_90 ?_
        refine v_iload_n (q := 2) dX6_free_91 rfl rfl ?_
        obtain ⟨hi_23, hw⟩ := hw
        obtain ⟨ma_24, ema_24⟩ : ∃ z9 : Nat → Nat → Int32, z9 = mup ma_21 2 (((nI 979) + (ma_21 2 ((nI 970)).toNatClampNeg))).toNatClampNeg x2 := ⟨_, rfl⟩
        replace hw := hw ma_24 ema_24
        refine v_iast dX6_free_92 (mH_ar2 hb) hi_23 ?_
        refine v_heap (h' := mH b mi_3 ma_24 ml) (by rw [ema_24]; exact mH_st2 hb) ?_
        refine v_aload_n (q := 0) dX6_free_93 rfl rfl ?_
        refine vm_get hb 2 (Nat.le_of_ble_eq_true rfl) q1616 rfl dX6_free_94 rfl ?_
        refine v_sipush dX6_free_97 sp_970 ?_
        refine v_dup2 dX6_free_100 rfl (v_rf1 _) ?_
        obtain ⟨hi_25, hw⟩ := hw
        refine v_iald dX6_free_101 (mH_ar2 hb) hi_25 ?_
        refine v_iconst dX6_free_102 ic_1 ?_
        refine v_iadd dX6_free_103 ?_
        obtain ⟨hi_26, hw⟩ := hw
        obtain ⟨ma_27, ema_27⟩ : ∃ z9 : Nat → Nat → Int32, z9 = mup ma_24 2 ((nI 970)).toNatClampNeg ((ma_24 2 ((nI 970)).toNatClampNeg) + (nI 1)) := ⟨_, rfl⟩
        replace hw := hw ma_27 ema_27
        refine v_iast dX6_free_104 (mH_ar2 hb) hi_26 ?_
        refine v_heap (h' := mH b mi_3 ma_27 ml) (by rw [ema_27]; exact mH_st2 hb) ?_
        refine v_aload_n (q := 0) dX6_free_105 rfl rfl ?_
        refine vm_get hb 2 (Nat.le_of_ble_eq_true rfl) q1616 rfl dX6_free_106 rfl ?_
        refine v_sipush dX6_free_109 sp_970 ?_
        obtain ⟨hi_28, hw⟩ := hw
        refine v_iald dX6_free_112 (mH_ar2 hb) hi_28 ?_
        exact v_iret dX6_free_113 rfl ⟨_, rfl, _, _, rfl, hw⟩
      · have hw := hw_18 c_16
        refine v_aload_n (q := 0) dX6_free_50 rfl rfl ?_
        refine v_bipush dX6_free_51 bp_m4 ?_
        refine v_callV q1737 q1739 qs53 q113 q1740 (ci := 7) rfl (mH_obj hb) n_X6_no ⟨Nat.le_of_ble_eq_true rfl, Nat.le_of_ble_eq_true rfl⟩ [.int (-4)] [] (met_X6_no hb hw) rfl (Nat.zero_le _) ⟨Nat.le_refl _, Nat.le_refl _⟩ dX6_free_53 rfl (v_ki (fun z_29 h1 hv => ?_))
        clear hw
        obtain ⟨ma_30, rfl, hw⟩ := hv
        exact v_iret dX6_free_56 rfl ⟨_, rfl, _, _, rfl, hw⟩
    · have hw := hw_13 c_11
      refine v_sub [0, 1, 2] rfl ?_
      exact b_X6_free_30 hb mi_3 ma hw
theorem met_X6_free {post : (Int32) → (Nat → Int32) → (Nat → Nat → Int32) → Prop}   {x1 : Int32} {x2 : Int32} {mi : Nat → Int32} {ma : Nat → Nat → Int32} {ml : Nat → Nat → Int64} (hb : mOK b)  (hw : w_X6_free post  x1 x2 mi ma ml) : Mt l E yX6_free (ws_ yX6_free cX6_free 3 (some .int)) r_X6_free [va_rf (some (b 0)), .int x1, .int x2] (mH b mi ma ml) (vpi (fun (r : Int32) (h' : AH) => ∃ (mi' : Nat → Int32) (ma' : Nat → Nat → Int32), h' = (mH b mi' ma' ml) ∧ post r mi' ma')) := v_entry (by decide +kernel) (Nat.le_of_ble_eq_true rfl) rfl (fun _ => e_X6_free hb hw)
/-! X6_isFree -/
abbrev r_X6_isFree : Room := { frames := 1, cells := 0, slots := 0, locals := 25 }
theorem n_X6_isFree : vdn yX6_isFree 1 := ⟨by decide +kernel, by decide +kernel, by decide +kernel⟩
def w_X6_isFree_55 (post : (Int32) → Prop) (k4 : (Int32) → (Int32) → Prop) (x1 : Int32) (mi : Nat → Int32) (ma : Nat → Nat → Int32) (ml : Nat → Nat → Int64) (x3 : Int32) (s0 : Int32) : Prop :=
 (∀ z_1 : Int32, z_1 = x3 + (nI 1) → (k4 s0 z_1))
def w_X6_isFree_50 (post : (Int32) → Prop) (k4 : (Int32) → (Int32) → Prop) (x1 : Int32) (mi : Nat → Int32) (ma : Nat → Nat → Int32) (ml : Nat → Nat → Int64) (x3 : Int32) : Prop :=
 (w_X6_isFree_55 post k4 x1 mi ma ml x3 (nI 1))
def w_X6_isFree_4 (post : (Int32) → Prop) (x1 : Int32) (mi : Nat → Int32) (ma : Nat → Nat → Int32) (ml : Nat → Nat → Int64) : Nat → (Int32) → (Int32) → Prop
 | 0, _, _ => False
 | n0 + 1, x2, x3 =>
 (vp_in (nI 970) 3372 ∧ (((ma 2 ((nI 970)).toNatClampNeg) ≤ x3 → ((x2 = nI 0 ∨ x2 = nI 1) ∧ post x2)) ∧ (¬ (ma 2 ((nI 970)).toNatClampNeg) ≤ x3 → ((¬ x2 = 0 → (w_X6_isFree_50 post (fun (q0 : Int32) (q1 : Int32) => w_X6_isFree_4 post x1 mi ma ml n0 q0 q1) x1 mi ma ml x3)) ∧ (x2 = 0 → (vp_in ((nI 971) + x3) 3372 ∧ (vp_in ((nI 979) + x3) 3372 ∧ (w_X6_within (fun (z_14 : Int32) => ((z_14 = 0 → (w_X6_isFree_55 post (fun (q0 : Int32) (q1 : Int32) => w_X6_isFree_4 post x1 mi ma ml n0 q0 q1) x1 mi ma ml x3 (nI 0))) ∧ (¬ z_14 = 0 → (w_X6_isFree_50 post (fun (q0 : Int32) (q1 : Int32) => w_X6_isFree_4 post x1 mi ma ml n0 q0 q1) x1 mi ma ml x3)))) ((x1).toInt64) (((ma 2 (((nI 971) + x3)).toNatClampNeg)).toInt64) (((ma 2 (((nI 979) + x3)).toNatClampNeg)).toInt64)))))))))
def w_X6_isFree (post : (Int32) → Prop) (x1 : Int32) (mi : Nat → Int32) (ma : Nat → Nat → Int32) (ml : Nat → Nat → Int64) : Prop :=
 (∃ n1 : Nat, (w_X6_isFree_4 post x1 mi ma ml n1 (nI 0) (nI 0)))
theorem b_X6_isFree_55 {post : (Int32) → Prop}   {x1 : Int32} {mi : Nat → Int32} {ma : Nat → Nat → Int32} {ml : Nat → Nat → Int64} {k4 : (Int32) → (Int32) → Prop} (hb : mOK b)  (hk4 : ∀ (x2 : Int32) (x3 : Int32), k4 x2 x3 → VV l E X cX6_isFree RX6 "isFree" 4 r_X6_isFree (some .boolean) (vpi (fun (r : Int32) (h' : AH) => h' = (mH b mi ma ml) ∧ post r)) (mH b mi ma ml) 0 0 4 [(0, va_rf (some (b 0))), (1, .int x1), (2, .int x2), (3, .int x3)] []) (x3 : Int32) (s0 : Int32) (hw : w_X6_isFree_55 post k4 x1 mi ma ml x3 s0) : VV l E X cX6_isFree RX6 "isFree" 4 r_X6_isFree (some .boolean) (vpi (fun (r : Int32) (h' : AH) => h' = (mH b mi ma ml) ∧ post r)) (mH b mi ma ml) 0 0 55 [(0, va_rf (some (b 0))), (1, .int x1), (3, .int x3)] [.int s0] := by
  refine v_istore_n (lv1 := [(2, .int s0), (0, va_rf (some (b 0))), (1, .int x1), (3, .int x3)]) dX6_isFree_55 rfl (Nat.le_of_ble_eq_true rfl) rfl ?_
  obtain ⟨z_1, e_1⟩ : ∃ z9 : Int32, z9 = x3 + (nI 1) := ⟨_, rfl⟩
  replace hw := hw z_1 e_1
  refine v_iinc (q := 3) (v := z_1) (lv1 := [(3, .int z_1), (2, .int s0), (0, va_rf (some (b 0))), (1, .int x1)]) dX6_isFree_56 rfl (by rw [e_1, ic_1]) (Nat.le_of_ble_eq_true rfl) rfl ?_
  refine v_goto (tgt := 4) dX6_isFree_59 (by decide) ?_
  refine v_sub [2, 3, 1, 0] rfl ?_
  exact hk4 s0 z_1 hw
theorem b_X6_isFree_50 {post : (Int32) → Prop}   {x1 : Int32} {mi : Nat → Int32} {ma : Nat → Nat → Int32} {ml : Nat → Nat → Int64} {k4 : (Int32) → (Int32) → Prop} (hb : mOK b)  (hk4 : ∀ (x2 : Int32) (x3 : Int32), k4 x2 x3 → VV l E X cX6_isFree RX6 "isFree" 4 r_X6_isFree (some .boolean) (vpi (fun (r : Int32) (h' : AH) => h' = (mH b mi ma ml) ∧ post r)) (mH b mi ma ml) 0 0 4 [(0, va_rf (some (b 0))), (1, .int x1), (2, .int x2), (3, .int x3)] []) (x3 : Int32) (hw : w_X6_isFree_50 post k4 x1 mi ma ml x3) : VV l E X cX6_isFree RX6 "isFree" 4 r_X6_isFree (some .boolean) (vpi (fun (r : Int32) (h' : AH) => h' = (mH b mi ma ml) ∧ post r)) (mH b mi ma ml) 0 0 50 [(0, va_rf (some (b 0))), (1, .int x1), (3, .int x3)] [] := by
  refine v_iconst dX6_isFree_50 ic_1 ?_
  refine v_goto (tgt := 55) dX6_isFree_51 (by decide) ?_
  refine v_sub [0, 1, 2] rfl ?_
  exact b_X6_isFree_55 hb hk4 x3 (nI 1) hw
theorem b_X6_isFree_4 {post : (Int32) → Prop}   {x1 : Int32} {mi : Nat → Int32} {ma : Nat → Nat → Int32} {ml : Nat → Nat → Int64}  (hb : mOK b)   : ∀ (n0 : Nat) (x2 : Int32) (x3 : Int32), w_X6_isFree_4 post x1 mi ma ml n0 x2 x3 → VV l E X cX6_isFree RX6 "isFree" 4 r_X6_isFree (some .boolean) (vpi (fun (r : Int32) (h' : AH) => h' = (mH b mi ma ml) ∧ post r)) (mH b mi ma ml) 0 0 4 [(0, va_rf (some (b 0))), (1, .int x1), (2, .int x2), (3, .int x3)] [] := by
  intro n0
  induction n0 with
  | zero =>
    intro x2 x3 hw
    exact hw.elim
  | succ n0 ih =>
    intro x2 x3 hw
    refine v_iload_n (q := 3) dX6_isFree_4 rfl rfl ?_
    refine v_aload_n (q := 0) dX6_isFree_5 rfl rfl ?_
    refine vm_get hb 2 (Nat.le_of_ble_eq_true rfl) q1616 rfl dX6_isFree_6 rfl ?_
    refine v_sipush dX6_isFree_9 sp_970 ?_
    obtain ⟨hi_2, hw⟩ := hw
    refine v_iald dX6_isFree_12 (mH_ar2 hb) hi_2 ?_
    obtain ⟨hw_5, hw_6⟩ := hw
    refine v_icmp_ge (tgt := 62) dX6_isFree_13 (by decide) (fun c_3 => ?_) (fun c_4 => ?_)
    · have hw := hw_5 c_3
      refine v_iload_n (q := 2) dX6_isFree_62 rfl rfl ?_
      obtain ⟨hn_7, hw⟩ := hw
      exact v_zret dX6_isFree_63 rfl (v_z1 hn_7).1 ⟨_, rfl, rfl, hw⟩
    · have hw := hw_6 c_4
      refine v_iload_n (q := 2) dX6_isFree_16 rfl rfl ?_
      obtain ⟨hw_10, hw_11⟩ := hw
      refine v_if_ne (tgt := 50) dX6_isFree_17 (by decide) (fun c_8 => ?_) (fun c_9 => ?_)
      · have hw := hw_10 c_8
        refine v_sub [0, 1, 3] rfl ?_
        exact b_X6_isFree_50 hb (fun q0 q1 z => ih q0 q1 z) x3 hw
      · have hw := hw_11 c_9
        refine v_iload_n (q := 1) dX6_isFree_20 rfl rfl ?_
        refine v_i2l dX6_isFree_21 ?_
        refine v_aload_n (q := 0) dX6_isFree_22 rfl rfl ?_
        refine vm_get hb 2 (Nat.le_of_ble_eq_true rfl) q1616 rfl dX6_isFree_23 rfl ?_
        refine v_sipush dX6_isFree_26 sp_971 ?_
        refine v_iload_n (q := 3) dX6_isFree_29 rfl rfl ?_
        refine v_iadd dX6_isFree_30 ?_
        obtain ⟨hi_12, hw⟩ := hw
        refine v_iald dX6_isFree_31 (mH_ar2 hb) hi_12 ?_
        refine v_i2l dX6_isFree_32 ?_
        refine v_aload_n (q := 0) dX6_isFree_33 rfl rfl ?_
        refine vm_get hb 2 (Nat.le_of_ble_eq_true rfl) q1616 rfl dX6_isFree_34 rfl ?_
        refine v_sipush dX6_isFree_37 sp_979 ?_
        refine v_iload_n (q := 3) dX6_isFree_40 rfl rfl ?_
        refine v_iadd dX6_isFree_41 ?_
        obtain ⟨hi_13, hw⟩ := hw
        refine v_iald dX6_isFree_42 (mH_ar2 hb) hi_13 ?_
        refine v_i2l dX6_isFree_43 ?_
        refine v_callS q1734 q1735 q113 q1736 n_X6_within ⟨Nat.le_of_ble_eq_true rfl, Nat.le_of_ble_eq_true rfl⟩ [.long ((x1).toInt64), .long (((ma 2 (((nI 971) + x3)).toNatClampNeg)).toInt64), .long (((ma 2 (((nI 979) + x3)).toNatClampNeg)).toInt64)] [] (met_X6_within hw) rfl (Nat.zero_le _) ⟨Nat.le_refl _, Nat.le_refl _⟩ dX6_isFree_44 rfl (v_ki (fun z_14 h1 hv => ?_))
        clear hw
        obtain ⟨e9, hw⟩ := hv
        refine v_heap e9 ?_
        clear e9
        obtain ⟨hw_17, hw_18⟩ := hw
        refine v_if_eq (tgt := 54) dX6_isFree_47 (by decide) (fun c_15 => ?_) (fun c_16 => ?_)
        · have hw := hw_17 c_15
          refine v_iconst dX6_isFree_54 ic_0 ?_
          refine v_sub [0, 1, 3] rfl ?_
          exact b_X6_isFree_55 hb (fun q0 q1 z => ih q0 q1 z) x3 (nI 0) hw
        · have hw := hw_18 c_16
          refine v_sub [0, 1, 3] rfl ?_
          exact b_X6_isFree_50 hb (fun q0 q1 z => ih q0 q1 z) x3 hw
theorem e_X6_isFree {post : (Int32) → Prop}   {x1 : Int32} {mi : Nat → Int32} {ma : Nat → Nat → Int32} {ml : Nat → Nat → Int64} (hb : mOK b)  (hw : w_X6_isFree post  x1 mi ma ml) : VV l E X cX6_isFree RX6 "isFree" 4 r_X6_isFree (some .boolean) (vpi (fun (r : Int32) (h' : AH) => h' = (mH b mi ma ml) ∧ post r)) (mH b mi ma ml) 0 0 0 [(0, va_rf (some (b 0))), (1, .int x1)] [] := by
  refine v_iconst dX6_isFree_0 ic_0 ?_
  refine v_istore_n (lv1 := [(2, .int (nI 0)), (0, va_rf (some (b 0))), (1, .int x1)]) dX6_isFree_1 rfl (Nat.le_of_ble_eq_true rfl) rfl ?_
  refine v_iconst dX6_isFree_2 ic_0 ?_
  refine v_istore_n (lv1 := [(3, .int (nI 0)), (2, .int (nI 0)), (0, va_rf (some (b 0))), (1, .int x1)]) dX6_isFree_3 rfl (Nat.le_of_ble_eq_true rfl) rfl ?_
  obtain ⟨n_19, hw⟩ := hw
  refine v_sub [2, 3, 1, 0] rfl ?_
  exact b_X6_isFree_4 hb n_19 (nI 0) (nI 0) hw
theorem met_X6_isFree {post : (Int32) → Prop}   {x1 : Int32} {mi : Nat → Int32} {ma : Nat → Nat → Int32} {ml : Nat → Nat → Int64} (hb : mOK b)  (hw : w_X6_isFree post  x1 mi ma ml) : Mt l E yX6_isFree (ws_ yX6_isFree cX6_isFree 4 (some .boolean)) r_X6_isFree [va_rf (some (b 0)), .int x1] (mH b mi ma ml) (vpi (fun (r : Int32) (h' : AH) => h' = (mH b mi ma ml) ∧ post r)) := v_entry (by decide +kernel) (Nat.le_of_ble_eq_true rfl) rfl (fun _ => e_X6_isFree hb hw)
/-! X6_freeUpTo -/
abbrev r_X6_freeUpTo : Room := { frames := 2, cells := 0, slots := 0, locals := 48 }
theorem n_X6_freeUpTo : vdn yX6_freeUpTo 1 := ⟨by decide +kernel, by decide +kernel, by decide +kernel⟩
def w_X6_freeUpTo_23 (post : (Int32) → Prop) (k4 : (Int32) → (Int32) → Prop) (x1 : Int32) (mi : Nat → Int32) (ma : Nat → Nat → Int32) (ml : Nat → Nat → Int64) (x3 : Int32) (s0 : Int32) (s1 : Int32) : Prop :=
 (∀ z_1 : Int32, z_1 = (s1 + s0) → (∀ z_2 : Int32, z_2 = x3 + (nI 1) → (k4 z_1 z_2)))
def w_X6_freeUpTo_4 (post : (Int32) → Prop) (x1 : Int32) (mi : Nat → Int32) (ma : Nat → Nat → Int32) (ml : Nat → Nat → Int64) : Nat → (Int32) → (Int32) → Prop
 | 0, _, _ => False
 | n0 + 1, x2, x3 =>
 ((x1 < x3 → (post x2)) ∧ (¬ x1 < x3 → (w_X6_isFree (fun (z_7 : Int32) => ((z_7 = 0 → (w_X6_freeUpTo_23 post (fun (q0 : Int32) (q1 : Int32) => w_X6_freeUpTo_4 post x1 mi ma ml n0 q0 q1) x1 mi ma ml x3 (nI 0) x2)) ∧ (¬ z_7 = 0 → (w_X6_freeUpTo_23 post (fun (q0 : Int32) (q1 : Int32) => w_X6_freeUpTo_4 post x1 mi ma ml n0 q0 q1) x1 mi ma ml x3 (nI 1) x2)))) x3 mi ma ml)))
def w_X6_freeUpTo (post : (Int32) → Prop) (x1 : Int32) (mi : Nat → Int32) (ma : Nat → Nat → Int32) (ml : Nat → Nat → Int64) : Prop :=
 (∃ n1 : Nat, (w_X6_freeUpTo_4 post x1 mi ma ml n1 (nI 0) (nI 0)))
theorem b_X6_freeUpTo_23 {post : (Int32) → Prop}   {x1 : Int32} {mi : Nat → Int32} {ma : Nat → Nat → Int32} {ml : Nat → Nat → Int64} {k4 : (Int32) → (Int32) → Prop} (hb : mOK b)  (hk4 : ∀ (x2 : Int32) (x3 : Int32), k4 x2 x3 → VV l E X cX6_freeUpTo RX6 "freeUpTo" 4 r_X6_freeUpTo (some .int) (vpi (fun (r : Int32) (h' : AH) => h' = (mH b mi ma ml) ∧ post r)) (mH b mi ma ml) 0 0 4 [(0, va_rf (some (b 0))), (1, .int x1), (2, .int x2), (3, .int x3)] []) (x3 : Int32) (s0 : Int32) (s1 : Int32) (hw : w_X6_freeUpTo_23 post k4 x1 mi ma ml x3 s0 s1) : VV l E X cX6_freeUpTo RX6 "freeUpTo" 4 r_X6_freeUpTo (some .int) (vpi (fun (r : Int32) (h' : AH) => h' = (mH b mi ma ml) ∧ post r)) (mH b mi ma ml) 0 0 23 [(0, va_rf (some (b 0))), (1, .int x1), (3, .int x3)] [.int s0, .int s1] := by
  refine v_iadd dX6_freeUpTo_23 ?_
  refine v_topi (fun z_1 e_1 => ?_)
  replace hw := hw z_1 e_1
  refine v_istore_n (lv1 := [(2, .int z_1), (0, va_rf (some (b 0))), (1, .int x1), (3, .int x3)]) dX6_freeUpTo_24 rfl (Nat.le_of_ble_eq_true rfl) rfl ?_
  obtain ⟨z_2, e_2⟩ : ∃ z9 : Int32, z9 = x3 + (nI 1) := ⟨_, rfl⟩
  replace hw := hw z_2 e_2
  refine v_iinc (q := 3) (v := z_2) (lv1 := [(3, .int z_2), (2, .int z_1), (0, va_rf (some (b 0))), (1, .int x1)]) dX6_freeUpTo_25 rfl (by rw [e_2, ic_1]) (Nat.le_of_ble_eq_true rfl) rfl ?_
  refine v_goto (tgt := 4) dX6_freeUpTo_28 (by decide) ?_
  refine v_sub [2, 3, 1, 0] rfl ?_
  exact hk4 z_1 z_2 hw
theorem b_X6_freeUpTo_4 {post : (Int32) → Prop}   {x1 : Int32} {mi : Nat → Int32} {ma : Nat → Nat → Int32} {ml : Nat → Nat → Int64}  (hb : mOK b)   : ∀ (n0 : Nat) (x2 : Int32) (x3 : Int32), w_X6_freeUpTo_4 post x1 mi ma ml n0 x2 x3 → VV l E X cX6_freeUpTo RX6 "freeUpTo" 4 r_X6_freeUpTo (some .int) (vpi (fun (r : Int32) (h' : AH) => h' = (mH b mi ma ml) ∧ post r)) (mH b mi ma ml) 0 0 4 [(0, va_rf (some (b 0))), (1, .int x1), (2, .int x2), (3, .int x3)] [] := by
  intro n0
  induction n0 with
  | zero =>
    intro x2 x3 hw
    exact hw.elim
  | succ n0 ih =>
    intro x2 x3 hw
    refine v_iload_n (q := 3) dX6_freeUpTo_4 rfl rfl ?_
    refine v_iload_n (q := 1) dX6_freeUpTo_5 rfl rfl ?_
    obtain ⟨hw_5, hw_6⟩ := hw
    refine v_icmp_gt (tgt := 31) dX6_freeUpTo_6 (by decide) (fun c_3 => ?_) (fun c_4 => ?_)
    · have hw := hw_5 c_3
      refine v_iload_n (q := 2) dX6_freeUpTo_31 rfl rfl ?_
      exact v_iret dX6_freeUpTo_32 rfl ⟨_, rfl, rfl, hw⟩
    · have hw := hw_6 c_4
      refine v_iload_n (q := 2) dX6_freeUpTo_9 rfl rfl ?_
      refine v_aload_n (q := 0) dX6_freeUpTo_10 rfl rfl ?_
      refine v_iload_n (q := 3) dX6_freeUpTo_11 rfl rfl ?_
      refine v_callV q2090 q2092 qs97 q113 q2093 (ci := 7) rfl (mH_obj hb) n_X6_isFree ⟨Nat.le_of_ble_eq_true rfl, Nat.le_of_ble_eq_true rfl⟩ [.int x3] [.int x2] (met_X6_isFree hb hw) rfl (Nat.le_of_ble_eq_true rfl) ⟨Nat.le_refl _, Nat.le_refl _⟩ dX6_freeUpTo_12 rfl (v_ki (fun z_7 h1 hv => ?_))
      clear hw
      obtain ⟨e9, hw⟩ := hv
      refine v_heap e9 ?_
      clear e9
      obtain ⟨hw_10, hw_11⟩ := hw
      refine v_if_eq (tgt := 22) dX6_freeUpTo_15 (by decide) (fun c_8 => ?_) (fun c_9 => ?_)
      · have hw := hw_10 c_8
        refine v_iconst dX6_freeUpTo_22 ic_0 ?_
        refine v_sub [0, 1, 3] rfl ?_
        exact b_X6_freeUpTo_23 hb (fun q0 q1 z => ih q0 q1 z) x3 (nI 0) x2 hw
      · have hw := hw_11 c_9
        refine v_iconst dX6_freeUpTo_18 ic_1 ?_
        refine v_goto (tgt := 23) dX6_freeUpTo_19 (by decide) ?_
        refine v_sub [0, 1, 3] rfl ?_
        exact b_X6_freeUpTo_23 hb (fun q0 q1 z => ih q0 q1 z) x3 (nI 1) x2 hw
theorem e_X6_freeUpTo {post : (Int32) → Prop}   {x1 : Int32} {mi : Nat → Int32} {ma : Nat → Nat → Int32} {ml : Nat → Nat → Int64} (hb : mOK b)  (hw : w_X6_freeUpTo post  x1 mi ma ml) : VV l E X cX6_freeUpTo RX6 "freeUpTo" 4 r_X6_freeUpTo (some .int) (vpi (fun (r : Int32) (h' : AH) => h' = (mH b mi ma ml) ∧ post r)) (mH b mi ma ml) 0 0 0 [(0, va_rf (some (b 0))), (1, .int x1)] [] := by
  refine v_iconst dX6_freeUpTo_0 ic_0 ?_
  refine v_istore_n (lv1 := [(2, .int (nI 0)), (0, va_rf (some (b 0))), (1, .int x1)]) dX6_freeUpTo_1 rfl (Nat.le_of_ble_eq_true rfl) rfl ?_
  refine v_iconst dX6_freeUpTo_2 ic_0 ?_
  refine v_istore_n (lv1 := [(3, .int (nI 0)), (2, .int (nI 0)), (0, va_rf (some (b 0))), (1, .int x1)]) dX6_freeUpTo_3 rfl (Nat.le_of_ble_eq_true rfl) rfl ?_
  obtain ⟨n_12, hw⟩ := hw
  refine v_sub [2, 3, 1, 0] rfl ?_
  exact b_X6_freeUpTo_4 hb n_12 (nI 0) (nI 0) hw
theorem met_X6_freeUpTo {post : (Int32) → Prop}   {x1 : Int32} {mi : Nat → Int32} {ma : Nat → Nat → Int32} {ml : Nat → Nat → Int64} (hb : mOK b)  (hw : w_X6_freeUpTo post  x1 mi ma ml) : Mt l E yX6_freeUpTo (ws_ yX6_freeUpTo cX6_freeUpTo 4 (some .int)) r_X6_freeUpTo [va_rf (some (b 0)), .int x1] (mH b mi ma ml) (vpi (fun (r : Int32) (h' : AH) => h' = (mH b mi ma ml) ∧ post r)) := v_entry (by decide +kernel) (Nat.le_of_ble_eq_true rfl) rfl (fun _ => e_X6_freeUpTo hb hw)
end WALK
