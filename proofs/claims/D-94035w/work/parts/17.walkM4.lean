set_option maxRecDepth 100000
section WALK
variable {l : Launch} {E : VE} {X : VX} {b : Nat → Nat}
/-! X6_chance -/
abbrev r_X6_chance : Room := { frames := 4, cells := 0, slots := 0, locals := 100 }
theorem n_X6_chance : vdn yX6_chance 2 := ⟨by decide +kernel, by decide +kernel, by decide +kernel⟩
def w_X6_chance (post : (Int32) → (Nat → Int32) → (Nat → Nat → Int32) → Prop) (x1 : Int32) (x2 : Int32) (mi : Nat → Int32) (ma : Nat → Nat → Int32) (ml : Nat → Nat → Int64) : Prop :=
 (∀ mi_1 : Nat → Int32, mi_1 = upd mi 0 (nI 0) → (w_X6_within (fun (z_2 : Int32) => ((¬ z_2 = 0 → (w_X6_within (fun (z_7 : Int32) => ((¬ z_7 = 0 → (w_X6_meets (fun (mi_12 : Nat → Int32) (ma_13 : Nat → Nat → Int32) => (w_X6_part (fun (y_14 : Int64) => (post ((y_14).toInt32) mi_12 ma_13)) (((mi_12 33)).toInt64) (((mi_12 32)).toInt64) x2)) x1 (nI 1) mi_1 ma ml)) ∧ (z_7 = 0 → (w_X6_no (fun (z_15 : Int32) (ma_16 : Nat → Nat → Int32) => (post z_15 mi_1 ma_16)) (-3) mi_1 ma ml)))) ((x1).toInt64) (lN 1) (lN 100))) ∧ (z_2 = 0 → (w_X6_no (fun (z_17 : Int32) (ma_18 : Nat → Nat → Int32) => (post z_17 mi_1 ma_18)) (-2) mi_1 ma ml)))) ((x2).toInt64) (lN 0) (lN 1)))
theorem e_X6_chance {post : (Int32) → (Nat → Int32) → (Nat → Nat → Int32) → Prop}   {x1 : Int32} {x2 : Int32} {mi : Nat → Int32} {ma : Nat → Nat → Int32} {ml : Nat → Nat → Int64} (hb : mOK b)  (hw : w_X6_chance post  x1 x2 mi ma ml) : VV l E X cX6_chance RX6 "chance" 3 r_X6_chance (some .int) (vpi (fun (r : Int32) (h' : AH) => ∃ (mi' : Nat → Int32) (ma' : Nat → Nat → Int32), h' = (mH b mi' ma' ml) ∧ post r mi' ma')) (mH b mi ma ml) 0 0 0 [(0, va_rf (some (b 0))), (1, .int x1), (2, .int x2)] [] := by
  refine v_aload_n (q := 0) dX6_chance_0 rfl rfl ?_
  refine v_iconst dX6_chance_1 ic_0 ?_
  obtain ⟨mi_1, emi_1⟩ : ∃ z9 : Nat → Int32, z9 = upd mi 0 (nI 0) := ⟨_, rfl⟩
  replace hw := hw mi_1 emi_1
  refine vm_put hb 0 (Nat.le_of_ble_eq_true rfl) q1614 rfl rfl rfl dX6_chance_2 emi_1 rfl ?_
  refine v_iload_n (q := 2) dX6_chance_5 rfl rfl ?_
  refine v_i2l dX6_chance_6 ?_
  refine v_lconst (v := lN 0) dX6_chance_7 rfl ?_
  refine v_lconst (v := lN 1) dX6_chance_8 rfl ?_
  refine v_callS q1734 q1735 q113 q1736 n_X6_within ⟨Nat.le_of_ble_eq_true rfl, Nat.le_of_ble_eq_true rfl⟩ [.long ((x2).toInt64), .long (lN 0), .long (lN 1)] [] (met_X6_within hw) rfl (Nat.zero_le _) ⟨Nat.le_refl _, Nat.le_refl _⟩ dX6_chance_9 rfl (v_ki (fun z_2 h1 hv => ?_))
  clear hw
  obtain ⟨e9, hw⟩ := hv
  refine v_heap e9 ?_
  clear e9
  obtain ⟨hw_5, hw_6⟩ := hw
  refine v_if_ne (tgt := 22) dX6_chance_12 (by decide) (fun c_3 => ?_) (fun c_4 => ?_)
  · have hw := hw_5 c_3
    refine v_iload_n (q := 1) dX6_chance_22 rfl rfl ?_
    refine v_i2l dX6_chance_23 ?_
    refine v_lconst (v := lN 1) dX6_chance_24 rfl ?_
    refine v_ldc2 (v := (lN 100)) dX6_chance_25 q1770 ?_
    refine v_callS q1734 q1735 q113 q1736 n_X6_within ⟨Nat.le_of_ble_eq_true rfl, Nat.le_of_ble_eq_true rfl⟩ [.long ((x1).toInt64), .long (lN 1), .long (lN 100)] [] (met_X6_within hw) rfl (Nat.zero_le _) ⟨Nat.le_refl _, Nat.le_refl _⟩ dX6_chance_28 rfl (v_ki (fun z_7 h1 hv => ?_))
    clear hw
    obtain ⟨e9, hw⟩ := hv
    refine v_heap e9 ?_
    clear e9
    obtain ⟨hw_10, hw_11⟩ := hw
    refine v_if_ne (tgt := 41) dX6_chance_31 (by decide) (fun c_8 => ?_) (fun c_9 => ?_)
    · have hw := hw_10 c_8
      refine v_aload_n (q := 0) dX6_chance_41 rfl rfl ?_
      refine v_iload_n (q := 1) dX6_chance_42 rfl rfl ?_
      refine v_iconst dX6_chance_43 ic_1 ?_
      refine v_callV q1959 q1961 qs87 q113 q1962 (ci := 7) rfl (mH_obj hb) n_X6_meets ⟨Nat.le_of_ble_eq_true rfl, Nat.le_of_ble_eq_true rfl⟩ [.int x1, .int (nI 1)] [] (met_X6_meets hb hw) rfl (Nat.zero_le _) ⟨Nat.le_refl _, Nat.le_refl _⟩ dX6_chance_44 rfl (v_kv (fun h1 hv => ?_))
      clear hw
      obtain ⟨mi_12, ma_13, rfl, hw⟩ := hv
      refine v_aload_n (q := 0) dX6_chance_47 rfl rfl ?_
      refine vm_get hb 33 (Nat.le_of_ble_eq_true rfl) q1647 rfl dX6_chance_48 rfl ?_
      refine v_i2l dX6_chance_51 ?_
      refine v_aload_n (q := 0) dX6_chance_52 rfl rfl ?_
      refine vm_get hb 32 (Nat.le_of_ble_eq_true rfl) q1646 rfl dX6_chance_53 rfl ?_
      refine v_i2l dX6_chance_56 ?_
      refine v_iload_n (q := 2) dX6_chance_57 rfl rfl ?_
      refine v_callS q1963 q1964 q113 q1965 n_X6_part ⟨Nat.le_of_ble_eq_true rfl, Nat.le_of_ble_eq_true rfl⟩ [.long (((mi_12 33)).toInt64), .long (((mi_12 32)).toInt64), .int x2] [] (met_X6_part hw) rfl (Nat.zero_le _) ⟨Nat.le_refl _, Nat.le_refl _⟩ dX6_chance_58 rfl (v_kl (fun y_14 h1 hv => ?_))
      clear hw
      obtain ⟨e9, hw⟩ := hv
      refine v_heap e9 ?_
      clear e9
      refine v_l2i dX6_chance_61 ?_
      exact v_iret dX6_chance_62 rfl ⟨_, rfl, _, _, rfl, hw⟩
    · have hw := hw_11 c_9
      refine v_aload_n (q := 0) dX6_chance_34 rfl rfl ?_
      refine v_bipush dX6_chance_35 bp_m3 ?_
      refine v_callV q1737 q1739 qs53 q113 q1740 (ci := 7) rfl (mH_obj hb) n_X6_no ⟨Nat.le_of_ble_eq_true rfl, Nat.le_of_ble_eq_true rfl⟩ [.int (-3)] [] (met_X6_no hb hw) rfl (Nat.zero_le _) ⟨Nat.le_refl _, Nat.le_refl _⟩ dX6_chance_37 rfl (v_ki (fun z_15 h1 hv => ?_))
      clear hw
      obtain ⟨ma_16, rfl, hw⟩ := hv
      exact v_iret dX6_chance_40 rfl ⟨_, rfl, _, _, rfl, hw⟩
  · have hw := hw_6 c_4
    refine v_aload_n (q := 0) dX6_chance_15 rfl rfl ?_
    refine v_bipush dX6_chance_16 bp_m2 ?_
    refine v_callV q1737 q1739 qs53 q113 q1740 (ci := 7) rfl (mH_obj hb) n_X6_no ⟨Nat.le_of_ble_eq_true rfl, Nat.le_of_ble_eq_true rfl⟩ [.int (-2)] [] (met_X6_no hb hw) rfl (Nat.zero_le _) ⟨Nat.le_refl _, Nat.le_refl _⟩ dX6_chance_18 rfl (v_ki (fun z_17 h1 hv => ?_))
    clear hw
    obtain ⟨ma_18, rfl, hw⟩ := hv
    exact v_iret dX6_chance_21 rfl ⟨_, rfl, _, _, rfl, hw⟩
theorem met_X6_chance {post : (Int32) → (Nat → Int32) → (Nat → Nat → Int32) → Prop}   {x1 : Int32} {x2 : Int32} {mi : Nat → Int32} {ma : Nat → Nat → Int32} {ml : Nat → Nat → Int64} (hb : mOK b)  (hw : w_X6_chance post  x1 x2 mi ma ml) : Mt l E yX6_chance (ws_ yX6_chance cX6_chance 3 (some .int)) r_X6_chance [va_rf (some (b 0)), .int x1, .int x2] (mH b mi ma ml) (vpi (fun (r : Int32) (h' : AH) => ∃ (mi' : Nat → Int32) (ma' : Nat → Nat → Int32), h' = (mH b mi' ma' ml) ∧ post r mi' ma')) := v_entry (by decide +kernel) (Nat.le_of_ble_eq_true rfl) rfl (fun _ => e_X6_chance hb hw)
/-! X6_odds -/
abbrev r_X6_odds : Room := { frames := 4, cells := 0, slots := 0, locals := 100 }
theorem n_X6_odds : vdn yX6_odds 2 := ⟨by decide +kernel, by decide +kernel, by decide +kernel⟩
def w_X6_odds (post : (Int64) → (Nat → Int32) → (Nat → Nat → Int32) → Prop) (x1 : Int32) (x2 : Int32) (mi : Nat → Int32) (ma : Nat → Nat → Int32) (ml : Nat → Nat → Int64) : Prop :=
 (∀ mi_1 : Nat → Int32, mi_1 = upd mi 0 (nI 0) → (w_X6_within (fun (z_2 : Int32) => ((¬ z_2 = 0 → (w_X6_within (fun (z_7 : Int32) => ((¬ z_7 = 0 → (w_X6_meets (fun (mi_12 : Nat → Int32) (ma_13 : Nat → Nat → Int32) => (∀ y_14 : Int64, y_14 = (((mi_12 33)).toInt64) → (∀ y_15 : Int64, y_15 = (((mi_12 32)).toInt64) → (w_X6_meets (fun (mi_16 : Nat → Int32) (ma_17 : Nat → Nat → Int32) => (w_X6_part (fun (y_18 : Int64) => (post y_18 mi_16 ma_17)) ((((mi_16 33)).toInt64) * y_15) ((((mi_16 32)).toInt64) * y_14) x2)) x1 (nI 0) mi_12 ma_13 ml)))) x1 (nI 1) mi_1 ma ml)) ∧ (z_7 = 0 → (w_X6_no (fun (z_19 : Int32) (ma_20 : Nat → Nat → Int32) => (post ((z_19).toInt64) mi_1 ma_20)) (-3) mi_1 ma ml)))) ((x1).toInt64) (lN 1) (lN 100))) ∧ (z_2 = 0 → (w_X6_no (fun (z_21 : Int32) (ma_22 : Nat → Nat → Int32) => (post ((z_21).toInt64) mi_1 ma_22)) (-2) mi_1 ma ml)))) ((x2).toInt64) (lN 0) (lN 1)))
theorem e_X6_odds {post : (Int64) → (Nat → Int32) → (Nat → Nat → Int32) → Prop}   {x1 : Int32} {x2 : Int32} {mi : Nat → Int32} {ma : Nat → Nat → Int32} {ml : Nat → Nat → Int64} (hb : mOK b)  (hw : w_X6_odds post  x1 x2 mi ma ml) : VV l E X cX6_odds RX6 "odds" 7 r_X6_odds (some .long) (vpl (fun (r : Int64) (h' : AH) => ∃ (mi' : Nat → Int32) (ma' : Nat → Nat → Int32), h' = (mH b mi' ma' ml) ∧ post r mi' ma')) (mH b mi ma ml) 0 0 0 [(0, va_rf (some (b 0))), (1, .int x1), (2, .int x2)] [] := by
  refine v_aload_n (q := 0) dX6_odds_0 rfl rfl ?_
  refine v_iconst dX6_odds_1 ic_0 ?_
  obtain ⟨mi_1, emi_1⟩ : ∃ z9 : Nat → Int32, z9 = upd mi 0 (nI 0) := ⟨_, rfl⟩
  replace hw := hw mi_1 emi_1
  refine vm_put hb 0 (Nat.le_of_ble_eq_true rfl) q1614 rfl rfl rfl dX6_odds_2 emi_1 rfl ?_
  refine v_iload_n (q := 2) dX6_odds_5 rfl rfl ?_
  refine v_i2l dX6_odds_6 ?_
  refine v_lconst (v := lN 0) dX6_odds_7 rfl ?_
  refine v_lconst (v := lN 1) dX6_odds_8 rfl ?_
  refine v_callS q1734 q1735 q113 q1736 n_X6_within ⟨Nat.le_of_ble_eq_true rfl, Nat.le_of_ble_eq_true rfl⟩ [.long ((x2).toInt64), .long (lN 0), .long (lN 1)] [] (met_X6_within hw) rfl (Nat.zero_le _) ⟨Nat.le_refl _, Nat.le_refl _⟩ dX6_odds_9 rfl (v_ki (fun z_2 h1 hv => ?_))
  clear hw
  obtain ⟨e9, hw⟩ := hv
  refine v_heap e9 ?_
  clear e9
  obtain ⟨hw_5, hw_6⟩ := hw
  refine v_if_ne (tgt := 23) dX6_odds_12 (by decide) (fun c_3 => ?_) (fun c_4 => ?_)
  · have hw := hw_5 c_3
    refine v_iload_n (q := 1) dX6_odds_23 rfl rfl ?_
    refine v_i2l dX6_odds_24 ?_
    refine v_lconst (v := lN 1) dX6_odds_25 rfl ?_
    refine v_ldc2 (v := (lN 100)) dX6_odds_26 q1770 ?_
    refine v_callS q1734 q1735 q113 q1736 n_X6_within ⟨Nat.le_of_ble_eq_true rfl, Nat.le_of_ble_eq_true rfl⟩ [.long ((x1).toInt64), .long (lN 1), .long (lN 100)] [] (met_X6_within hw) rfl (Nat.zero_le _) ⟨Nat.le_refl _, Nat.le_refl _⟩ dX6_odds_29 rfl (v_ki (fun z_7 h1 hv => ?_))
    clear hw
    obtain ⟨e9, hw⟩ := hv
    refine v_heap e9 ?_
    clear e9
    obtain ⟨hw_10, hw_11⟩ := hw
    refine v_if_ne (tgt := 43) dX6_odds_32 (by decide) (fun c_8 => ?_) (fun c_9 => ?_)
    · have hw := hw_10 c_8
      refine v_aload_n (q := 0) dX6_odds_43 rfl rfl ?_
      refine v_iload_n (q := 1) dX6_odds_44 rfl rfl ?_
      refine v_iconst dX6_odds_45 ic_1 ?_
      refine v_callV q1959 q1961 qs87 q113 q1962 (ci := 7) rfl (mH_obj hb) n_X6_meets ⟨Nat.le_of_ble_eq_true rfl, Nat.le_of_ble_eq_true rfl⟩ [.int x1, .int (nI 1)] [] (met_X6_meets hb hw) rfl (Nat.zero_le _) ⟨Nat.le_refl _, Nat.le_refl _⟩ dX6_odds_46 rfl (v_kv (fun h1 hv => ?_))
      clear hw
      obtain ⟨mi_12, ma_13, rfl, hw⟩ := hv
      refine v_aload_n (q := 0) dX6_odds_49 rfl rfl ?_
      refine vm_get hb 33 (Nat.le_of_ble_eq_true rfl) q1647 rfl dX6_odds_50 rfl ?_
      refine v_i2l dX6_odds_53 ?_
      refine v_topl (fun y_14 e_14 => ?_)
      replace hw := hw y_14 e_14
      refine v_lstore_n (lv1 := [(3, .long y_14), (0, va_rf (some (b 0))), (1, .int x1), (2, .int x2)]) dX6_odds_54 rfl (Nat.le_of_ble_eq_true rfl) rfl ?_
      refine v_aload_n (q := 1) dX6_odds_55 rfl rfl ?_
      refine vm_get hb 32 (Nat.le_of_ble_eq_true rfl) q1646 rfl dX6_odds_56 rfl ?_
      refine v_i2l dX6_odds_59 ?_
      refine v_topl (fun y_15 e_15 => ?_)
      replace hw := hw y_15 e_15
      refine v_lstore (lv1 := [(5, .long y_15), (3, .long y_14), (0, va_rf (some (b 0))), (1, .int x1), (2, .int x2)]) dX6_odds_60 (Nat.le_of_ble_eq_true rfl) rfl ?_
      refine v_aload_n (q := 2) dX6_odds_62 rfl rfl ?_
      refine v_iload_n (q := 3) dX6_odds_63 rfl rfl ?_
      refine v_iconst dX6_odds_64 ic_0 ?_
      refine v_callV q1959 q1961 qs87 q113 q1962 (ci := 7) rfl (mH_obj hb) n_X6_meets ⟨Nat.le_of_ble_eq_true rfl, Nat.le_of_ble_eq_true rfl⟩ [.int x1, .int (nI 0)] [] (met_X6_meets hb hw) rfl (Nat.zero_le _) ⟨Nat.le_refl _, Nat.le_refl _⟩ dX6_odds_65 rfl (v_kv (fun h1 hv => ?_))
      clear hw
      obtain ⟨mi_16, ma_17, rfl, hw⟩ := hv
      refine v_aload_n (q := 2) dX6_odds_68 rfl rfl ?_
      refine vm_get hb 33 (Nat.le_of_ble_eq_true rfl) q1647 rfl dX6_odds_69 rfl ?_
      refine v_i2l dX6_odds_72 ?_
      refine v_lload (q := 0) dX6_odds_73 rfl ?_
      refine v_lmul dX6_odds_75 ?_
      refine v_aload_n (q := 2) dX6_odds_76 rfl rfl ?_
      refine vm_get hb 32 (Nat.le_of_ble_eq_true rfl) q1646 rfl dX6_odds_77 rfl ?_
      refine v_i2l dX6_odds_80 ?_
      refine v_lload_n (q := 1) dX6_odds_81 rfl rfl ?_
      refine v_lmul dX6_odds_82 ?_
      refine v_iload_n (q := 4) dX6_odds_83 rfl rfl ?_
      refine v_callS q1963 q1964 q113 q1965 n_X6_part ⟨Nat.le_of_ble_eq_true rfl, Nat.le_of_ble_eq_true rfl⟩ [.long ((((mi_16 33)).toInt64) * y_15), .long ((((mi_16 32)).toInt64) * y_14), .int x2] [] (met_X6_part hw) rfl (Nat.zero_le _) ⟨Nat.le_refl _, Nat.le_refl _⟩ dX6_odds_84 rfl (v_kl (fun y_18 h1 hv => ?_))
      clear hw
      obtain ⟨e9, hw⟩ := hv
      refine v_heap e9 ?_
      clear e9
      exact v_lret dX6_odds_87 rfl ⟨_, rfl, _, _, rfl, hw⟩
    · have hw := hw_11 c_9
      refine v_aload_n (q := 0) dX6_odds_35 rfl rfl ?_
      refine v_bipush dX6_odds_36 bp_m3 ?_
      refine v_callV q1737 q1739 qs53 q113 q1740 (ci := 7) rfl (mH_obj hb) n_X6_no ⟨Nat.le_of_ble_eq_true rfl, Nat.le_of_ble_eq_true rfl⟩ [.int (-3)] [] (met_X6_no hb hw) rfl (Nat.zero_le _) ⟨Nat.le_refl _, Nat.le_refl _⟩ dX6_odds_38 rfl (v_ki (fun z_19 h1 hv => ?_))
      clear hw
      obtain ⟨ma_20, rfl, hw⟩ := hv
      refine v_i2l dX6_odds_41 ?_
      exact v_lret dX6_odds_42 rfl ⟨_, rfl, _, _, rfl, hw⟩
  · have hw := hw_6 c_4
    refine v_aload_n (q := 0) dX6_odds_15 rfl rfl ?_
    refine v_bipush dX6_odds_16 bp_m2 ?_
    refine v_callV q1737 q1739 qs53 q113 q1740 (ci := 7) rfl (mH_obj hb) n_X6_no ⟨Nat.le_of_ble_eq_true rfl, Nat.le_of_ble_eq_true rfl⟩ [.int (-2)] [] (met_X6_no hb hw) rfl (Nat.zero_le _) ⟨Nat.le_refl _, Nat.le_refl _⟩ dX6_odds_18 rfl (v_ki (fun z_21 h1 hv => ?_))
    clear hw
    obtain ⟨ma_22, rfl, hw⟩ := hv
    refine v_i2l dX6_odds_21 ?_
    exact v_lret dX6_odds_22 rfl ⟨_, rfl, _, _, rfl, hw⟩
theorem met_X6_odds {post : (Int64) → (Nat → Int32) → (Nat → Nat → Int32) → Prop}   {x1 : Int32} {x2 : Int32} {mi : Nat → Int32} {ma : Nat → Nat → Int32} {ml : Nat → Nat → Int64} (hb : mOK b)  (hw : w_X6_odds post  x1 x2 mi ma ml) : Mt l E yX6_odds (ws_ yX6_odds cX6_odds 7 (some .long)) r_X6_odds [va_rf (some (b 0)), .int x1, .int x2] (mH b mi ma ml) (vpl (fun (r : Int64) (h' : AH) => ∃ (mi' : Nat → Int32) (ma' : Nat → Nat → Int32), h' = (mH b mi' ma' ml) ∧ post r mi' ma')) := v_entry (by decide +kernel) (Nat.le_of_ble_eq_true rfl) rfl (fun _ => e_X6_odds hb hw)
/-! X6_matchesOf -/
abbrev r_X6_matchesOf : Room := { frames := 3, cells := 0, slots := 0, locals := 73 }
theorem n_X6_matchesOf : vdn yX6_matchesOf 2 := ⟨by decide +kernel, by decide +kernel, by decide +kernel⟩
def w_X6_matchesOf_84 (post : (Int32) → (Nat → Nat → Int32) → Prop) (k5 : (Int32) → (Int32) → (Nat → Nat → Int32) → Prop) (k24 : (Int32) → (Int32) → (Int32) → (Int32) → (Nat → Nat → Int32) → Prop) (x1 : Int32) (x2 : Int32) (mi : Nat → Int32) (ml : Nat → Nat → Int64) (x3 : Int32) (x4 : Int32) (x6 : Int32) (s0 : Int32) (ma : Nat → Nat → Int32) : Prop :=
 (∀ z_1 : Int32, z_1 = x6 + (nI 1) → (k24 x3 x4 s0 z_1 ma))
def w_X6_matchesOf_103 (post : (Int32) → (Nat → Nat → Int32) → Prop) (k5 : (Int32) → (Int32) → (Nat → Nat → Int32) → Prop) (x1 : Int32) (x2 : Int32) (mi : Nat → Int32) (ml : Nat → Nat → Int64) (x4 : Int32) (s0 : Int32) (s1 : Int32) (ma : Nat → Nat → Int32) : Prop :=
 (∀ z_2 : Int32, z_2 = (s1 + s0) → (∀ z_3 : Int32, z_3 = x4 + (nI 1) → (k5 z_2 z_3 ma)))
def w_X6_matchesOf_92 (post : (Int32) → (Nat → Nat → Int32) → Prop) (k5 : (Int32) → (Int32) → (Nat → Nat → Int32) → Prop) (x1 : Int32) (x2 : Int32) (mi : Nat → Int32) (ml : Nat → Nat → Int64) (x3 : Int32) (x4 : Int32) (x5 : Int32) (ma : Nat → Nat → Int32) : Prop :=
 ((x5 = 0 → (w_X6_matchesOf_103 post k5 x1 x2 mi ml x4 (nI 0) x3 ma)) ∧ (¬ x5 = 0 → (w_X6_matchesOf_103 post k5 x1 x2 mi ml x4 (nI 1) x3 ma)))
def w_X6_matchesOf_24 (post : (Int32) → (Nat → Nat → Int32) → Prop) (k5 : (Int32) → (Int32) → (Nat → Nat → Int32) → Prop) (x1 : Int32) (x2 : Int32) (mi : Nat → Int32) (ml : Nat → Nat → Int64) : Nat → (Int32) → (Int32) → (Int32) → (Int32) → (Nat → Nat → Int32) → Prop
 | 0, _, _, _, _, _ => False
 | n0 + 1, x3, x4, x5, x6, ma =>
 (vp_in ((nI 236) + x1) 3372 ∧ (((ma 2 (((nI 236) + x1)).toNatClampNeg) ≤ x6 → (w_X6_matchesOf_92 post k5 x1 x2 mi ml x3 x4 x5 ma)) ∧ (¬ (ma 2 (((nI 236) + x1)).toNatClampNeg) ≤ x6 → ((¬ x5 = 0 → (w_X6_matchesOf_92 post k5 x1 x2 mi ml x3 x4 x5 ma)) ∧ (x5 = 0 → (vp_in ((nI 480) + x4) 2352 ∧ (vp_in (((nI 540) + ((nI 12) * x1)) + x6) 2352 ∧ (w_X6_likeOf (fun (z_19 : Int32) (ma_20 : Nat → Nat → Int32) => ((z_19 < x2 → (w_X6_matchesOf_84 post k5 (fun (q0 : Int32) (q1 : Int32) (q2 : Int32) (q3 : Int32) (q4 : Nat → Nat → Int32) => w_X6_matchesOf_24 post k5 x1 x2 mi ml n0 q0 q1 q2 q3 q4) x1 x2 mi ml x3 x4 x6 (nI 0) ma_20)) ∧ (¬ z_19 < x2 → (w_X6_matchesOf_84 post k5 (fun (q0 : Int32) (q1 : Int32) (q2 : Int32) (q3 : Int32) (q4 : Nat → Nat → Int32) => w_X6_matchesOf_24 post k5 x1 x2 mi ml n0 q0 q1 q2 q3 q4) x1 x2 mi ml x3 x4 x6 (nI 1) ma_20)))) (ml 3 (((nI 480) + x4)).toNatClampNeg) (ml 3 ((((nI 540) + ((nI 12) * x1)) + x6)).toNatClampNeg) mi ma ml))))))))
def w_X6_matchesOf_5 (post : (Int32) → (Nat → Nat → Int32) → Prop) (x1 : Int32) (x2 : Int32) (mi : Nat → Int32) (ml : Nat → Nat → Int64) : Nat → (Int32) → (Int32) → (Nat → Nat → Int32) → Prop
 | 0, _, _, _ => False
 | n0 + 1, x3, x4, ma =>
 (vp_in (nI 162) 3372 ∧ (((ma 2 ((nI 162)).toNatClampNeg) ≤ x4 → (post x3 ma)) ∧ (¬ (ma 2 ((nI 162)).toNatClampNeg) ≤ x4 → (∃ n1 : Nat, (w_X6_matchesOf_24 post (fun (q0 : Int32) (q1 : Int32) (q2 : Nat → Nat → Int32) => w_X6_matchesOf_5 post x1 x2 mi ml n0 q0 q1 q2) x1 x2 mi ml n1 x3 x4 (nI 0) (nI 0) ma)))))
def w_X6_matchesOf (post : (Int32) → (Nat → Nat → Int32) → Prop) (x1 : Int32) (x2 : Int32) (mi : Nat → Int32) (ma : Nat → Nat → Int32) (ml : Nat → Nat → Int64) : Prop :=
 (∃ n1 : Nat, (w_X6_matchesOf_5 post x1 x2 mi ml n1 (nI 0) (nI 0) ma))
theorem b_X6_matchesOf_84 {post : (Int32) → (Nat → Nat → Int32) → Prop}   {x1 : Int32} {x2 : Int32} {mi : Nat → Int32} {ml : Nat → Nat → Int64} {k5 : (Int32) → (Int32) → (Nat → Nat → Int32) → Prop} {k24 : (Int32) → (Int32) → (Int32) → (Int32) → (Nat → Nat → Int32) → Prop} (hb : mOK b)  (hk5 : ∀ (x3 : Int32) (x4 : Int32) (ma : Nat → Nat → Int32), k5 x3 x4 ma → VV l E X cX6_matchesOf RX6 "matchesOf" 7 r_X6_matchesOf (some .int) (vpi (fun (r : Int32) (h' : AH) => ∃ (ma' : Nat → Nat → Int32), h' = (mH b mi ma' ml) ∧ post r ma')) (mH b mi ma ml) 0 0 5 [(0, va_rf (some (b 0))), (1, .int x1), (2, .int x2), (3, .int x3), (4, .int x4)] []) (hk24 : ∀ (x3 : Int32) (x4 : Int32) (x5 : Int32) (x6 : Int32) (ma : Nat → Nat → Int32), k24 x3 x4 x5 x6 ma → VV l E X cX6_matchesOf RX6 "matchesOf" 7 r_X6_matchesOf (some .int) (vpi (fun (r : Int32) (h' : AH) => ∃ (ma' : Nat → Nat → Int32), h' = (mH b mi ma' ml) ∧ post r ma')) (mH b mi ma ml) 0 0 24 [(0, va_rf (some (b 0))), (1, .int x1), (2, .int x2), (3, .int x3), (4, .int x4), (5, .int x5), (6, .int x6)] []) (x3 : Int32) (x4 : Int32) (x6 : Int32) (s0 : Int32) (ma : Nat → Nat → Int32) (hw : w_X6_matchesOf_84 post k5 k24 x1 x2 mi ml x3 x4 x6 s0 ma) : VV l E X cX6_matchesOf RX6 "matchesOf" 7 r_X6_matchesOf (some .int) (vpi (fun (r : Int32) (h' : AH) => ∃ (ma' : Nat → Nat → Int32), h' = (mH b mi ma' ml) ∧ post r ma')) (mH b mi ma ml) 0 0 84 [(0, va_rf (some (b 0))), (1, .int x1), (2, .int x2), (3, .int x3), (4, .int x4), (6, .int x6)] [.int s0] := by
  refine v_istore (lv1 := [(5, .int s0), (0, va_rf (some (b 0))), (1, .int x1), (2, .int x2), (3, .int x3), (4, .int x4), (6, .int x6)]) dX6_matchesOf_84 (Nat.le_of_ble_eq_true rfl) rfl ?_
  obtain ⟨z_1, e_1⟩ : ∃ z9 : Int32, z9 = x6 + (nI 1) := ⟨_, rfl⟩
  replace hw := hw z_1 e_1
  refine v_iinc (q := 6) (v := z_1) (lv1 := [(6, .int z_1), (5, .int s0), (0, va_rf (some (b 0))), (1, .int x1), (2, .int x2), (3, .int x3), (4, .int x4)]) dX6_matchesOf_86 rfl (by rw [e_1, ic_1]) (Nat.le_of_ble_eq_true rfl) rfl ?_
  refine v_goto (tgt := 24) dX6_matchesOf_89 (by decide) ?_
  refine v_sub [2, 3, 4, 5, 6, 1, 0] rfl ?_
  exact hk24 x3 x4 s0 z_1 ma hw
theorem b_X6_matchesOf_103 {post : (Int32) → (Nat → Nat → Int32) → Prop}   {x1 : Int32} {x2 : Int32} {mi : Nat → Int32} {ml : Nat → Nat → Int64} {k5 : (Int32) → (Int32) → (Nat → Nat → Int32) → Prop} (hb : mOK b)  (hk5 : ∀ (x3 : Int32) (x4 : Int32) (ma : Nat → Nat → Int32), k5 x3 x4 ma → VV l E X cX6_matchesOf RX6 "matchesOf" 7 r_X6_matchesOf (some .int) (vpi (fun (r : Int32) (h' : AH) => ∃ (ma' : Nat → Nat → Int32), h' = (mH b mi ma' ml) ∧ post r ma')) (mH b mi ma ml) 0 0 5 [(0, va_rf (some (b 0))), (1, .int x1), (2, .int x2), (3, .int x3), (4, .int x4)] []) (x4 : Int32) (s0 : Int32) (s1 : Int32) (ma : Nat → Nat → Int32) (hw : w_X6_matchesOf_103 post k5 x1 x2 mi ml x4 s0 s1 ma) : VV l E X cX6_matchesOf RX6 "matchesOf" 7 r_X6_matchesOf (some .int) (vpi (fun (r : Int32) (h' : AH) => ∃ (ma' : Nat → Nat → Int32), h' = (mH b mi ma' ml) ∧ post r ma')) (mH b mi ma ml) 0 0 103 [(0, va_rf (some (b 0))), (1, .int x1), (2, .int x2), (4, .int x4)] [.int s0, .int s1] := by
  refine v_iadd dX6_matchesOf_103 ?_
  refine v_topi (fun z_2 e_2 => ?_)
  replace hw := hw z_2 e_2
  refine v_istore_n (lv1 := [(3, .int z_2), (0, va_rf (some (b 0))), (1, .int x1), (2, .int x2), (4, .int x4)]) dX6_matchesOf_104 rfl (Nat.le_of_ble_eq_true rfl) rfl ?_
  obtain ⟨z_3, e_3⟩ : ∃ z9 : Int32, z9 = x4 + (nI 1) := ⟨_, rfl⟩
  replace hw := hw z_3 e_3
  refine v_iinc (q := 4) (v := z_3) (lv1 := [(4, .int z_3), (3, .int z_2), (0, va_rf (some (b 0))), (1, .int x1), (2, .int x2)]) dX6_matchesOf_105 rfl (by rw [e_3, ic_1]) (Nat.le_of_ble_eq_true rfl) rfl ?_
  refine v_goto (tgt := 5) dX6_matchesOf_108 (by decide) ?_
  refine v_sub [2, 3, 4, 1, 0] rfl ?_
  exact hk5 z_2 z_3 ma hw
theorem b_X6_matchesOf_92 {post : (Int32) → (Nat → Nat → Int32) → Prop}   {x1 : Int32} {x2 : Int32} {mi : Nat → Int32} {ml : Nat → Nat → Int64} {k5 : (Int32) → (Int32) → (Nat → Nat → Int32) → Prop} (hb : mOK b)  (hk5 : ∀ (x3 : Int32) (x4 : Int32) (ma : Nat → Nat → Int32), k5 x3 x4 ma → VV l E X cX6_matchesOf RX6 "matchesOf" 7 r_X6_matchesOf (some .int) (vpi (fun (r : Int32) (h' : AH) => ∃ (ma' : Nat → Nat → Int32), h' = (mH b mi ma' ml) ∧ post r ma')) (mH b mi ma ml) 0 0 5 [(0, va_rf (some (b 0))), (1, .int x1), (2, .int x2), (3, .int x3), (4, .int x4)] []) (x3 : Int32) (x4 : Int32) (x5 : Int32) (ma : Nat → Nat → Int32) (hw : w_X6_matchesOf_92 post k5 x1 x2 mi ml x3 x4 x5 ma) : VV l E X cX6_matchesOf RX6 "matchesOf" 7 r_X6_matchesOf (some .int) (vpi (fun (r : Int32) (h' : AH) => ∃ (ma' : Nat → Nat → Int32), h' = (mH b mi ma' ml) ∧ post r ma')) (mH b mi ma ml) 0 0 92 [(0, va_rf (some (b 0))), (1, .int x1), (2, .int x2), (3, .int x3), (4, .int x4), (5, .int x5)] [] := by
  refine v_iload_n (q := 3) dX6_matchesOf_92 rfl rfl ?_
  refine v_iload (q := 5) dX6_matchesOf_93 rfl ?_
  obtain ⟨hw_6, hw_7⟩ := hw
  refine v_if_eq (tgt := 102) dX6_matchesOf_95 (by decide) (fun c_4 => ?_) (fun c_5 => ?_)
  · have hw := hw_6 c_4
    refine v_iconst dX6_matchesOf_102 ic_0 ?_
    refine v_sub [0, 1, 2, 4] rfl ?_
    exact b_X6_matchesOf_103 hb hk5 x4 (nI 0) x3 ma hw
  · have hw := hw_7 c_5
    refine v_iconst dX6_matchesOf_98 ic_1 ?_
    refine v_goto (tgt := 103) dX6_matchesOf_99 (by decide) ?_
    refine v_sub [0, 1, 2, 4] rfl ?_
    exact b_X6_matchesOf_103 hb hk5 x4 (nI 1) x3 ma hw
theorem b_X6_matchesOf_24 {post : (Int32) → (Nat → Nat → Int32) → Prop}   {x1 : Int32} {x2 : Int32} {mi : Nat → Int32} {ml : Nat → Nat → Int64} {k5 : (Int32) → (Int32) → (Nat → Nat → Int32) → Prop} (hb : mOK b)  (hk5 : ∀ (x3 : Int32) (x4 : Int32) (ma : Nat → Nat → Int32), k5 x3 x4 ma → VV l E X cX6_matchesOf RX6 "matchesOf" 7 r_X6_matchesOf (some .int) (vpi (fun (r : Int32) (h' : AH) => ∃ (ma' : Nat → Nat → Int32), h' = (mH b mi ma' ml) ∧ post r ma')) (mH b mi ma ml) 0 0 5 [(0, va_rf (some (b 0))), (1, .int x1), (2, .int x2), (3, .int x3), (4, .int x4)] []) : ∀ (n0 : Nat) (x3 : Int32) (x4 : Int32) (x5 : Int32) (x6 : Int32) (ma : Nat → Nat → Int32), w_X6_matchesOf_24 post k5 x1 x2 mi ml n0 x3 x4 x5 x6 ma → VV l E X cX6_matchesOf RX6 "matchesOf" 7 r_X6_matchesOf (some .int) (vpi (fun (r : Int32) (h' : AH) => ∃ (ma' : Nat → Nat → Int32), h' = (mH b mi ma' ml) ∧ post r ma')) (mH b mi ma ml) 0 0 24 [(0, va_rf (some (b 0))), (1, .int x1), (2, .int x2), (3, .int x3), (4, .int x4), (5, .int x5), (6, .int x6)] [] := by
  intro n0
  induction n0 with
  | zero =>
    intro x3 x4 x5 x6 ma hw
    exact hw.elim
  | succ n0 ih =>
    intro x3 x4 x5 x6 ma hw
    refine v_iload (q := 6) dX6_matchesOf_24 rfl ?_
    refine v_aload_n (q := 0) dX6_matchesOf_26 rfl rfl ?_
    refine vm_get hb 2 (Nat.le_of_ble_eq_true rfl) q1616 rfl dX6_matchesOf_27 rfl ?_
    refine v_sipush dX6_matchesOf_30 sp_236 ?_
    refine v_iload_n (q := 1) dX6_matchesOf_33 rfl rfl ?_
    refine v_iadd dX6_matchesOf_34 ?_
    obtain ⟨hi_8, hw⟩ := hw
    refine v_iald dX6_matchesOf_35 (mH_ar2 hb) hi_8 ?_
    obtain ⟨hw_11, hw_12⟩ := hw
    refine v_icmp_ge (tgt := 92) dX6_matchesOf_36 (by decide) (fun c_9 => ?_) (fun c_10 => ?_)
    · have hw := hw_11 c_9
      refine v_sub [0, 1, 2, 3, 4, 5] rfl ?_
      exact b_X6_matchesOf_92 hb hk5 x3 x4 x5 ma hw
    · have hw := hw_12 c_10
      refine v_iload (q := 5) dX6_matchesOf_39 rfl ?_
      obtain ⟨hw_15, hw_16⟩ := hw
      refine v_if_ne (tgt := 92) dX6_matchesOf_41 (by decide) (fun c_13 => ?_) (fun c_14 => ?_)
      · have hw := hw_15 c_13
        refine v_sub [0, 1, 2, 3, 4, 5] rfl ?_
        exact b_X6_matchesOf_92 hb hk5 x3 x4 x5 ma hw
      · have hw := hw_16 c_14
        refine v_aload_n (q := 0) dX6_matchesOf_44 rfl rfl ?_
        refine v_aload_n (q := 0) dX6_matchesOf_45 rfl rfl ?_
        refine vm_get hb 3 (Nat.le_of_ble_eq_true rfl) q1617 rfl dX6_matchesOf_46 rfl ?_
        refine v_sipush dX6_matchesOf_49 sp_480 ?_
        refine v_iload (q := 4) dX6_matchesOf_52 rfl ?_
        refine v_iadd dX6_matchesOf_54 ?_
        obtain ⟨hi_17, hw⟩ := hw
        refine v_lald dX6_matchesOf_55 (mH_ar3 hb) hi_17 ?_
        refine v_aload_n (q := 0) dX6_matchesOf_56 rfl rfl ?_
        refine vm_get hb 3 (Nat.le_of_ble_eq_true rfl) q1617 rfl dX6_matchesOf_57 rfl ?_
        refine v_sipush dX6_matchesOf_60 sp_540 ?_
        refine v_bipush dX6_matchesOf_63 bp_12 ?_
        refine v_iload_n (q := 1) dX6_matchesOf_65 rfl rfl ?_
        refine v_imul dX6_matchesOf_66 ?_
        refine v_iadd dX6_matchesOf_67 ?_
        refine v_iload (q := 6) dX6_matchesOf_68 rfl ?_
        refine v_iadd dX6_matchesOf_70 ?_
        obtain ⟨hi_18, hw⟩ := hw
        refine v_lald dX6_matchesOf_71 (mH_ar3 hb) hi_18 ?_
        refine v_callV q1783 q1785 qs56 q113 q1786 (ci := 7) rfl (mH_obj hb) n_X6_likeOf ⟨Nat.le_of_ble_eq_true rfl, Nat.le_of_ble_eq_true rfl⟩ [.long (ml 3 (((nI 480) + x4)).toNatClampNeg), .long (ml 3 ((((nI 540) + ((nI 12) * x1)) + x6)).toNatClampNeg)] [] (met_X6_likeOf hb hw) rfl (Nat.zero_le _) ⟨Nat.le_refl _, Nat.le_refl _⟩ dX6_matchesOf_72 rfl (v_ki (fun z_19 h1 hv => ?_))
        clear hw
        obtain ⟨ma_20, rfl, hw⟩ := hv
        refine v_iload_n (q := 2) dX6_matchesOf_75 rfl rfl ?_
        obtain ⟨hw_23, hw_24⟩ := hw
        refine v_icmp_lt (tgt := 83) dX6_matchesOf_76 (by decide) (fun c_21 => ?_) (fun c_22 => ?_)
        · have hw := hw_23 c_21
          refine v_iconst dX6_matchesOf_83 ic_0 ?_
          refine v_sub [0, 1, 2, 3, 4, 6] rfl ?_
          exact b_X6_matchesOf_84 hb hk5 (fun q0 q1 q2 q3 q4 z => ih q0 q1 q2 q3 q4 z) x3 x4 x6 (nI 0) ma_20 hw
        · have hw := hw_24 c_22
          refine v_iconst dX6_matchesOf_79 ic_1 ?_
          refine v_goto (tgt := 84) dX6_matchesOf_80 (by decide) ?_
          refine v_sub [0, 1, 2, 3, 4, 6] rfl ?_
          exact b_X6_matchesOf_84 hb hk5 (fun q0 q1 q2 q3 q4 z => ih q0 q1 q2 q3 q4 z) x3 x4 x6 (nI 1) ma_20 hw
theorem b_X6_matchesOf_5 {post : (Int32) → (Nat → Nat → Int32) → Prop}   {x1 : Int32} {x2 : Int32} {mi : Nat → Int32} {ml : Nat → Nat → Int64}  (hb : mOK b)   : ∀ (n0 : Nat) (x3 : Int32) (x4 : Int32) (ma : Nat → Nat → Int32), w_X6_matchesOf_5 post x1 x2 mi ml n0 x3 x4 ma → VV l E X cX6_matchesOf RX6 "matchesOf" 7 r_X6_matchesOf (some .int) (vpi (fun (r : Int32) (h' : AH) => ∃ (ma' : Nat → Nat → Int32), h' = (mH b mi ma' ml) ∧ post r ma')) (mH b mi ma ml) 0 0 5 [(0, va_rf (some (b 0))), (1, .int x1), (2, .int x2), (3, .int x3), (4, .int x4)] [] := by
  intro n0
  induction n0 with
  | zero =>
    intro x3 x4 ma hw
    exact hw.elim
  | succ n0 ih =>
    intro x3 x4 ma hw
    refine v_iload (q := 4) dX6_matchesOf_5 rfl ?_
    refine v_aload_n (q := 0) dX6_matchesOf_7 rfl rfl ?_
    refine vm_get hb 2 (Nat.le_of_ble_eq_true rfl) q1616 rfl dX6_matchesOf_8 rfl ?_
    refine v_sipush dX6_matchesOf_11 sp_162 ?_
    obtain ⟨hi_25, hw⟩ := hw
    refine v_iald dX6_matchesOf_14 (mH_ar2 hb) hi_25 ?_
    obtain ⟨hw_28, hw_29⟩ := hw
    refine v_icmp_ge (tgt := 111) dX6_matchesOf_15 (by decide) (fun c_26 => ?_) (fun c_27 => ?_)
    · have hw := hw_28 c_26
      refine v_iload_n (q := 3) dX6_matchesOf_111 rfl rfl ?_
      exact v_iret dX6_matchesOf_112 rfl ⟨_, rfl, _, rfl, hw⟩
    · have hw := hw_29 c_27
      refine v_iconst dX6_matchesOf_18 ic_0 ?_
      refine v_istore (lv1 := [(5, .int (nI 0)), (0, va_rf (some (b 0))), (1, .int x1), (2, .int x2), (3, .int x3), (4, .int x4)]) dX6_matchesOf_19 (Nat.le_of_ble_eq_true rfl) rfl ?_
      refine v_iconst dX6_matchesOf_21 ic_0 ?_
      refine v_istore (lv1 := [(6, .int (nI 0)), (5, .int (nI 0)), (0, va_rf (some (b 0))), (1, .int x1), (2, .int x2), (3, .int x3), (4, .int x4)]) dX6_matchesOf_22 (Nat.le_of_ble_eq_true rfl) rfl ?_
      obtain ⟨n_30, hw⟩ := hw
      refine v_sub [2, 3, 4, 5, 6, 1, 0] rfl ?_
      exact b_X6_matchesOf_24 hb (fun q0 q1 q2 z => ih q0 q1 q2 z) n_30 x3 x4 (nI 0) (nI 0) ma hw
theorem e_X6_matchesOf {post : (Int32) → (Nat → Nat → Int32) → Prop}   {x1 : Int32} {x2 : Int32} {mi : Nat → Int32} {ma : Nat → Nat → Int32} {ml : Nat → Nat → Int64} (hb : mOK b)  (hw : w_X6_matchesOf post  x1 x2 mi ma ml) : VV l E X cX6_matchesOf RX6 "matchesOf" 7 r_X6_matchesOf (some .int) (vpi (fun (r : Int32) (h' : AH) => ∃ (ma' : Nat → Nat → Int32), h' = (mH b mi ma' ml) ∧ post r ma')) (mH b mi ma ml) 0 0 0 [(0, va_rf (some (b 0))), (1, .int x1), (2, .int x2)] [] := by
  refine v_iconst dX6_matchesOf_0 ic_0 ?_
  refine v_istore_n (lv1 := [(3, .int (nI 0)), (0, va_rf (some (b 0))), (1, .int x1), (2, .int x2)]) dX6_matchesOf_1 rfl (Nat.le_of_ble_eq_true rfl) rfl ?_
  refine v_iconst dX6_matchesOf_2 ic_0 ?_
  refine v_istore (lv1 := [(4, .int (nI 0)), (3, .int (nI 0)), (0, va_rf (some (b 0))), (1, .int x1), (2, .int x2)]) dX6_matchesOf_3 (Nat.le_of_ble_eq_true rfl) rfl ?_
  obtain ⟨n_31, hw⟩ := hw
  refine v_sub [2, 3, 4, 1, 0] rfl ?_
  exact b_X6_matchesOf_5 hb n_31 (nI 0) (nI 0) ma hw
theorem met_X6_matchesOf {post : (Int32) → (Nat → Nat → Int32) → Prop}   {x1 : Int32} {x2 : Int32} {mi : Nat → Int32} {ma : Nat → Nat → Int32} {ml : Nat → Nat → Int64} (hb : mOK b)  (hw : w_X6_matchesOf post  x1 x2 mi ma ml) : Mt l E yX6_matchesOf (ws_ yX6_matchesOf cX6_matchesOf 7 (some .int)) r_X6_matchesOf [va_rf (some (b 0)), .int x1, .int x2] (mH b mi ma ml) (vpi (fun (r : Int32) (h' : AH) => ∃ (ma' : Nat → Nat → Int32), h' = (mH b mi ma' ml) ∧ post r ma')) := v_entry (by decide +kernel) (Nat.le_of_ble_eq_true rfl) rfl (fun _ => e_X6_matchesOf hb hw)
/-! X6_matches -/
abbrev r_X6_matches : Room := { frames := 4, cells := 0, slots := 0, locals := 99 }
theorem n_X6_matches : vdn yX6_matches 2 := ⟨by decide +kernel, by decide +kernel, by decide +kernel⟩
def w_X6_matches (post : (Int32) → (Nat → Int32) → (Nat → Nat → Int32) → Prop) (x1 : Int32) (x2 : Int32) (mi : Nat → Int32) (ma : Nat → Nat → Int32) (ml : Nat → Nat → Int64) : Prop :=
 (∀ mi_1 : Nat → Int32, mi_1 = upd mi 0 (nI 0) → (vp_in (nI 223) 3372 ∧ (w_X6_within (fun (z_3 : Int32) => ((¬ z_3 = 0 → (w_X6_within (fun (z_8 : Int32) => ((¬ z_8 = 0 → (w_X6_matchesOf (fun (z_13 : Int32) (ma_14 : Nat → Nat → Int32) => (post z_13 mi_1 ma_14)) x1 x2 mi_1 ma ml)) ∧ (z_8 = 0 → (w_X6_no (fun (z_15 : Int32) (ma_16 : Nat → Nat → Int32) => (post z_15 mi_1 ma_16)) (-3) mi_1 ma ml)))) ((x2).toInt64) (lN 1) (lN 100))) ∧ (z_3 = 0 → (w_X6_no (fun (z_17 : Int32) (ma_18 : Nat → Nat → Int32) => (post z_17 mi_1 ma_18)) (-2) mi_1 ma ml)))) ((x1).toInt64) (lN 0) ((((ma 2 ((nI 223)).toNatClampNeg) - (nI 1))).toInt64))))
theorem e_X6_matches {post : (Int32) → (Nat → Int32) → (Nat → Nat → Int32) → Prop}   {x1 : Int32} {x2 : Int32} {mi : Nat → Int32} {ma : Nat → Nat → Int32} {ml : Nat → Nat → Int64} (hb : mOK b)  (hw : w_X6_matches post  x1 x2 mi ma ml) : VV l E X cX6_matches RX6 "matches" 3 r_X6_matches (some .int) (vpi (fun (r : Int32) (h' : AH) => ∃ (mi' : Nat → Int32) (ma' : Nat → Nat → Int32), h' = (mH b mi' ma' ml) ∧ post r mi' ma')) (mH b mi ma ml) 0 0 0 [(0, va_rf (some (b 0))), (1, .int x1), (2, .int x2)] [] := by
  refine v_aload_n (q := 0) dX6_matches_0 rfl rfl ?_
  refine v_iconst dX6_matches_1 ic_0 ?_
  obtain ⟨mi_1, emi_1⟩ : ∃ z9 : Nat → Int32, z9 = upd mi 0 (nI 0) := ⟨_, rfl⟩
  replace hw := hw mi_1 emi_1
  refine vm_put hb 0 (Nat.le_of_ble_eq_true rfl) q1614 rfl rfl rfl dX6_matches_2 emi_1 rfl ?_
  refine v_iload_n (q := 1) dX6_matches_5 rfl rfl ?_
  refine v_i2l dX6_matches_6 ?_
  refine v_lconst (v := lN 0) dX6_matches_7 rfl ?_
  refine v_aload_n (q := 0) dX6_matches_8 rfl rfl ?_
  refine vm_get hb 2 (Nat.le_of_ble_eq_true rfl) q1616 rfl dX6_matches_9 rfl ?_
  refine v_sipush dX6_matches_12 sp_223 ?_
  obtain ⟨hi_2, hw⟩ := hw
  refine v_iald dX6_matches_15 (mH_ar2 hb) hi_2 ?_
  refine v_iconst dX6_matches_16 ic_1 ?_
  refine v_isub dX6_matches_17 ?_
  refine v_i2l dX6_matches_18 ?_
  refine v_callS q1734 q1735 q113 q1736 n_X6_within ⟨Nat.le_of_ble_eq_true rfl, Nat.le_of_ble_eq_true rfl⟩ [.long ((x1).toInt64), .long (lN 0), .long ((((ma 2 ((nI 223)).toNatClampNeg) - (nI 1))).toInt64)] [] (met_X6_within hw) rfl (Nat.zero_le _) ⟨Nat.le_refl _, Nat.le_refl _⟩ dX6_matches_19 rfl (v_ki (fun z_3 h1 hv => ?_))
  clear hw
  obtain ⟨e9, hw⟩ := hv
  refine v_heap e9 ?_
  clear e9
  obtain ⟨hw_6, hw_7⟩ := hw
  refine v_if_ne (tgt := 32) dX6_matches_22 (by decide) (fun c_4 => ?_) (fun c_5 => ?_)
  · have hw := hw_6 c_4
    refine v_iload_n (q := 2) dX6_matches_32 rfl rfl ?_
    refine v_i2l dX6_matches_33 ?_
    refine v_lconst (v := lN 1) dX6_matches_34 rfl ?_
    refine v_ldc2 (v := (lN 100)) dX6_matches_35 q1770 ?_
    refine v_callS q1734 q1735 q113 q1736 n_X6_within ⟨Nat.le_of_ble_eq_true rfl, Nat.le_of_ble_eq_true rfl⟩ [.long ((x2).toInt64), .long (lN 1), .long (lN 100)] [] (met_X6_within hw) rfl (Nat.zero_le _) ⟨Nat.le_refl _, Nat.le_refl _⟩ dX6_matches_38 rfl (v_ki (fun z_8 h1 hv => ?_))
    clear hw
    obtain ⟨e9, hw⟩ := hv
    refine v_heap e9 ?_
    clear e9
    obtain ⟨hw_11, hw_12⟩ := hw
    refine v_if_ne (tgt := 51) dX6_matches_41 (by decide) (fun c_9 => ?_) (fun c_10 => ?_)
    · have hw := hw_11 c_9
      refine v_aload_n (q := 0) dX6_matches_51 rfl rfl ?_
      refine v_iload_n (q := 1) dX6_matches_52 rfl rfl ?_
      refine v_iload_n (q := 2) dX6_matches_53 rfl rfl ?_
      refine v_callV q1977 q1979 qs88 q113 q1980 (ci := 7) rfl (mH_obj hb) n_X6_matchesOf ⟨Nat.le_of_ble_eq_true rfl, Nat.le_of_ble_eq_true rfl⟩ [.int x1, .int x2] [] (met_X6_matchesOf hb hw) rfl (Nat.zero_le _) ⟨Nat.le_refl _, Nat.le_refl _⟩ dX6_matches_54 rfl (v_ki (fun z_13 h1 hv => ?_))
      clear hw
      obtain ⟨ma_14, rfl, hw⟩ := hv
      exact v_iret dX6_matches_57 rfl ⟨_, rfl, _, _, rfl, hw⟩
    · have hw := hw_12 c_10
      refine v_aload_n (q := 0) dX6_matches_44 rfl rfl ?_
      refine v_bipush dX6_matches_45 bp_m3 ?_
      refine v_callV q1737 q1739 qs53 q113 q1740 (ci := 7) rfl (mH_obj hb) n_X6_no ⟨Nat.le_of_ble_eq_true rfl, Nat.le_of_ble_eq_true rfl⟩ [.int (-3)] [] (met_X6_no hb hw) rfl (Nat.zero_le _) ⟨Nat.le_refl _, Nat.le_refl _⟩ dX6_matches_47 rfl (v_ki (fun z_15 h1 hv => ?_))
      clear hw
      obtain ⟨ma_16, rfl, hw⟩ := hv
      exact v_iret dX6_matches_50 rfl ⟨_, rfl, _, _, rfl, hw⟩
  · have hw := hw_7 c_5
    refine v_aload_n (q := 0) dX6_matches_25 rfl rfl ?_
    refine v_bipush dX6_matches_26 bp_m2 ?_
    refine v_callV q1737 q1739 qs53 q113 q1740 (ci := 7) rfl (mH_obj hb) n_X6_no ⟨Nat.le_of_ble_eq_true rfl, Nat.le_of_ble_eq_true rfl⟩ [.int (-2)] [] (met_X6_no hb hw) rfl (Nat.zero_le _) ⟨Nat.le_refl _, Nat.le_refl _⟩ dX6_matches_28 rfl (v_ki (fun z_17 h1 hv => ?_))
    clear hw
    obtain ⟨ma_18, rfl, hw⟩ := hv
    exact v_iret dX6_matches_31 rfl ⟨_, rfl, _, _, rfl, hw⟩
theorem met_X6_matches {post : (Int32) → (Nat → Int32) → (Nat → Nat → Int32) → Prop}   {x1 : Int32} {x2 : Int32} {mi : Nat → Int32} {ma : Nat → Nat → Int32} {ml : Nat → Nat → Int64} (hb : mOK b)  (hw : w_X6_matches post  x1 x2 mi ma ml) : Mt l E yX6_matches (ws_ yX6_matches cX6_matches 3 (some .int)) r_X6_matches [va_rf (some (b 0)), .int x1, .int x2] (mH b mi ma ml) (vpi (fun (r : Int32) (h' : AH) => ∃ (mi' : Nat → Int32) (ma' : Nat → Nat → Int32), h' = (mH b mi' ma' ml) ∧ post r mi' ma')) := v_entry (by decide +kernel) (Nat.le_of_ble_eq_true rfl) rfl (fun _ => e_X6_matches hb hw)
/-! X6_most -/
abbrev r_X6_most : Room := { frames := 4, cells := 0, slots := 0, locals := 99 }
theorem n_X6_most : vdn yX6_most 2 := ⟨by decide +kernel, by decide +kernel, by decide +kernel⟩
def w_X6_most_118 (post : (Int32) → (Nat → Int32) → (Nat → Nat → Int32) → Prop) (k72 : (Int32) → (Int32) → (Int32) → (Int32) → (Nat → Int32) → (Nat → Nat → Int32) → Prop) (x1 : Int32) (x2 : Int32) (ml : Nat → Nat → Int64) (x3 : Int32) (x4 : Int32) (x5 : Int32) (x6 : Int32) (mi : Nat → Int32) (ma : Nat → Nat → Int32) : Prop :=
 (∀ z_1 : Int32, z_1 = x6 + (nI 1) → (k72 x3 x4 x5 z_1 mi ma))
def w_X6_most_72 (post : (Int32) → (Nat → Int32) → (Nat → Nat → Int32) → Prop) (x1 : Int32) (x2 : Int32) (ml : Nat → Nat → Int64) : Nat → (Int32) → (Int32) → (Int32) → (Int32) → (Nat → Int32) → (Nat → Nat → Int32) → Prop
 | 0, _, _, _, _, _, _ => False
 | n0 + 1, x3, x4, x5, x6, mi, ma =>
 (vp_in (nI 223) 3372 ∧ (((ma 2 ((nI 223)).toNatClampNeg) ≤ x6 → ((¬ x2 = (nI 2) → (vp_in (nI 223) 3372 ∧ (w_X6_part (fun (y_12 : Int64) => (post ((y_12).toInt32) mi ma)) (((x4 * (ma 2 ((nI 223)).toNatClampNeg))).toInt64) ((x5).toInt64) x2))) ∧ (x2 = (nI 2) → (post x3 mi ma)))) ∧ (¬ (ma 2 ((nI 223)).toNatClampNeg) ≤ x6 → (w_X6_matchesOf (fun (z_13 : Int32) (ma_14 : Nat → Nat → Int32) => (∀ z_15 : Int32, z_15 = (x5 + z_13) → ((x4 < z_13 → (w_X6_most_118 post (fun (q0 : Int32) (q1 : Int32) (q2 : Int32) (q3 : Int32) (q4 : Nat → Int32) (q5 : Nat → Nat → Int32) => w_X6_most_72 post x1 x2 ml n0 q0 q1 q2 q3 q4 q5) x1 x2 ml x6 z_13 z_15 x6 mi ma_14)) ∧ (¬ x4 < z_13 → (w_X6_most_118 post (fun (q0 : Int32) (q1 : Int32) (q2 : Int32) (q3 : Int32) (q4 : Nat → Int32) (q5 : Nat → Nat → Int32) => w_X6_most_72 post x1 x2 ml n0 q0 q1 q2 q3 q4 q5) x1 x2 ml x3 x4 z_15 x6 mi ma_14))))) x6 x1 mi ma ml))))
def w_X6_most (post : (Int32) → (Nat → Int32) → (Nat → Nat → Int32) → Prop) (x1 : Int32) (x2 : Int32) (mi : Nat → Int32) (ma : Nat → Nat → Int32) (ml : Nat → Nat → Int64) : Prop :=
 (∀ mi_20 : Nat → Int32, mi_20 = upd mi 0 (nI 0) → (w_X6_within (fun (z_21 : Int32) => ((¬ z_21 = 0 → (w_X6_within (fun (z_26 : Int32) => ((¬ z_26 = 0 → (vp_in (nI 223) 3372 ∧ ((¬ (ma 2 ((nI 223)).toNatClampNeg) = 0 → (∃ n1 : Nat, (w_X6_most_72 post x1 x2 ml n1 (nI 0) (nI 0) (nI 0) (nI 0) mi_20 ma))) ∧ ((ma 2 ((nI 223)).toNatClampNeg) = 0 → (w_X6_no (fun (z_37 : Int32) (ma_38 : Nat → Nat → Int32) => (post z_37 mi_20 ma_38)) (-5) mi_20 ma ml))))) ∧ (z_26 = 0 → (w_X6_no (fun (z_39 : Int32) (ma_40 : Nat → Nat → Int32) => (post z_39 mi_20 ma_40)) (-3) mi_20 ma ml)))) ((x1).toInt64) (lN 1) (lN 100))) ∧ (z_21 = 0 → (w_X6_no (fun (z_41 : Int32) (ma_42 : Nat → Nat → Int32) => (post z_41 mi_20 ma_42)) (-2) mi_20 ma ml)))) ((x2).toInt64) (lN 0) (lN 2)))
theorem b_X6_most_118 {post : (Int32) → (Nat → Int32) → (Nat → Nat → Int32) → Prop}   {x1 : Int32} {x2 : Int32} {ml : Nat → Nat → Int64} {k72 : (Int32) → (Int32) → (Int32) → (Int32) → (Nat → Int32) → (Nat → Nat → Int32) → Prop} (hb : mOK b)  (hk72 : ∀ (x3 : Int32) (x4 : Int32) (x5 : Int32) (x6 : Int32) (mi : Nat → Int32) (ma : Nat → Nat → Int32), k72 x3 x4 x5 x6 mi ma → VV l E X cX6_most RX6 "most" 8 r_X6_most (some .int) (vpi (fun (r : Int32) (h' : AH) => ∃ (mi' : Nat → Int32) (ma' : Nat → Nat → Int32), h' = (mH b mi' ma' ml) ∧ post r mi' ma')) (mH b mi ma ml) 0 0 72 [(0, va_rf (some (b 0))), (1, .int x1), (2, .int x2), (3, .int x3), (4, .int x4), (5, .int x5), (6, .int x6)] []) (x3 : Int32) (x4 : Int32) (x5 : Int32) (x6 : Int32) (mi : Nat → Int32) (ma : Nat → Nat → Int32) (hw : w_X6_most_118 post k72 x1 x2 ml x3 x4 x5 x6 mi ma) : VV l E X cX6_most RX6 "most" 8 r_X6_most (some .int) (vpi (fun (r : Int32) (h' : AH) => ∃ (mi' : Nat → Int32) (ma' : Nat → Nat → Int32), h' = (mH b mi' ma' ml) ∧ post r mi' ma')) (mH b mi ma ml) 0 0 118 [(0, va_rf (some (b 0))), (1, .int x1), (2, .int x2), (3, .int x3), (4, .int x4), (5, .int x5), (6, .int x6)] [] := by
  obtain ⟨z_1, e_1⟩ : ∃ z9 : Int32, z9 = x6 + (nI 1) := ⟨_, rfl⟩
  replace hw := hw z_1 e_1
  refine v_iinc (q := 6) (v := z_1) (lv1 := [(6, .int z_1), (0, va_rf (some (b 0))), (1, .int x1), (2, .int x2), (3, .int x3), (4, .int x4), (5, .int x5)]) dX6_most_118 rfl (by rw [e_1, ic_1]) (Nat.le_of_ble_eq_true rfl) rfl ?_
  refine v_goto (tgt := 72) dX6_most_121 (by decide) ?_
  refine v_sub [1, 2, 3, 4, 5, 6, 0] rfl ?_
  exact hk72 x3 x4 x5 z_1 mi ma hw
theorem b_X6_most_72 {post : (Int32) → (Nat → Int32) → (Nat → Nat → Int32) → Prop}   {x1 : Int32} {x2 : Int32} {ml : Nat → Nat → Int64}  (hb : mOK b)   : ∀ (n0 : Nat) (x3 : Int32) (x4 : Int32) (x5 : Int32) (x6 : Int32) (mi : Nat → Int32) (ma : Nat → Nat → Int32), w_X6_most_72 post x1 x2 ml n0 x3 x4 x5 x6 mi ma → VV l E X cX6_most RX6 "most" 8 r_X6_most (some .int) (vpi (fun (r : Int32) (h' : AH) => ∃ (mi' : Nat → Int32) (ma' : Nat → Nat → Int32), h' = (mH b mi' ma' ml) ∧ post r mi' ma')) (mH b mi ma ml) 0 0 72 [(0, va_rf (some (b 0))), (1, .int x1), (2, .int x2), (3, .int x3), (4, .int x4), (5, .int x5), (6, .int x6)] [] := by
  intro n0
  induction n0 with
  | zero =>
    intro x3 x4 x5 x6 mi ma hw
    exact hw.elim
  | succ n0 ih =>
    intro x3 x4 x5 x6 mi ma hw
    refine v_iload (q := 6) dX6_most_72 rfl ?_
    refine v_aload_n (q := 0) dX6_most_74 rfl rfl ?_
    refine vm_get hb 2 (Nat.le_of_ble_eq_true rfl) q1616 rfl dX6_most_75 rfl ?_
    refine v_sipush dX6_most_78 sp_223 ?_
    obtain ⟨hi_2, hw⟩ := hw
    refine v_iald dX6_most_81 (mH_ar2 hb) hi_2 ?_
    obtain ⟨hw_5, hw_6⟩ := hw
    refine v_icmp_ge (tgt := 124) dX6_most_82 (by decide) (fun c_3 => ?_) (fun c_4 => ?_)
    · have hw := hw_5 c_3
      refine v_iload_n (q := 2) dX6_most_124 rfl rfl ?_
      refine v_iconst dX6_most_125 ic_2 ?_
      obtain ⟨hw_9, hw_10⟩ := hw
      refine v_icmp_ne (tgt := 133) dX6_most_126 (by decide) (fun c_7 => ?_) (fun c_8 => ?_)
      · have hw := hw_9 c_7
        refine v_iload (q := 4) dX6_most_133 rfl ?_
        refine v_aload_n (q := 0) dX6_most_135 rfl rfl ?_
        refine vm_get hb 2 (Nat.le_of_ble_eq_true rfl) q1616 rfl dX6_most_136 rfl ?_
        refine v_sipush dX6_most_139 sp_223 ?_
        obtain ⟨hi_11, hw⟩ := hw
        refine v_iald dX6_most_142 (mH_ar2 hb) hi_11 ?_
        refine v_imul dX6_most_143 ?_
        refine v_i2l dX6_most_144 ?_
        refine v_iload (q := 5) dX6_most_145 rfl ?_
        refine v_i2l dX6_most_147 ?_
        refine v_iload_n (q := 2) dX6_most_148 rfl rfl ?_
        refine v_callS q1963 q1964 q113 q1965 n_X6_part ⟨Nat.le_of_ble_eq_true rfl, Nat.le_of_ble_eq_true rfl⟩ [.long (((x4 * (ma 2 ((nI 223)).toNatClampNeg))).toInt64), .long ((x5).toInt64), .int x2] [] (met_X6_part hw) rfl (Nat.zero_le _) ⟨Nat.le_refl _, Nat.le_refl _⟩ dX6_most_149 rfl (v_kl (fun y_12 h1 hv => ?_))
        clear hw
        obtain ⟨e9, hw⟩ := hv
        refine v_heap e9 ?_
        clear e9
        refine v_l2i dX6_most_152 ?_
        exact v_iret dX6_most_153 rfl ⟨_, rfl, _, _, rfl, hw⟩
      · have hw := hw_10 c_8
        refine v_iload_n (q := 3) dX6_most_129 rfl rfl ?_
        refine v_goto (tgt := 153) dX6_most_130 (by decide) ?_
        exact v_iret dX6_most_153 rfl ⟨_, rfl, _, _, rfl, hw⟩
    · have hw := hw_6 c_4
      refine v_aload_n (q := 0) dX6_most_85 rfl rfl ?_
      refine v_iload (q := 6) dX6_most_86 rfl ?_
      refine v_iload_n (q := 1) dX6_most_88 rfl rfl ?_
      refine v_callV q1977 q1979 qs88 q113 q1980 (ci := 7) rfl (mH_obj hb) n_X6_matchesOf ⟨Nat.le_of_ble_eq_true rfl, Nat.le_of_ble_eq_true rfl⟩ [.int x6, .int x1] [] (met_X6_matchesOf hb hw) rfl (Nat.zero_le _) ⟨Nat.le_refl _, Nat.le_refl _⟩ dX6_most_89 rfl (v_ki (fun z_13 h1 hv => ?_))
      clear hw
      obtain ⟨ma_14, rfl, hw⟩ := hv
      refine v_istore (lv1 := [(7, .int z_13), (0, va_rf (some (b 0))), (1, .int x1), (2, .int x2), (3, .int x3), (4, .int x4), (5, .int x5), (6, .int x6)]) dX6_most_92 (Nat.le_of_ble_eq_true rfl) rfl ?_
      refine v_iload (q := 6) dX6_most_94 rfl ?_
      refine v_iload (q := 0) dX6_most_96 rfl ?_
      refine v_iadd dX6_most_98 ?_
      refine v_topi (fun z_15 e_15 => ?_)
      replace hw := hw z_15 e_15
      refine v_istore (lv1 := [(5, .int z_15), (7, .int z_13), (0, va_rf (some (b 0))), (1, .int x1), (2, .int x2), (3, .int x3), (4, .int x4), (6, .int x6)]) dX6_most_99 (Nat.le_of_ble_eq_true rfl) rfl ?_
      refine v_iload (q := 1) dX6_most_101 rfl ?_
      refine v_iload (q := 6) dX6_most_103 rfl ?_
      obtain ⟨hw_18, hw_19⟩ := hw
      refine v_icmp_gt (tgt := 111) dX6_most_105 (by decide) (fun c_16 => ?_) (fun c_17 => ?_)
      · have hw := hw_18 c_16
        refine v_iload (q := 7) dX6_most_111 rfl ?_
        refine v_istore_n (lv1 := [(3, .int x6), (5, .int z_15), (7, .int z_13), (0, va_rf (some (b 0))), (1, .int x1), (2, .int x2), (4, .int x4), (6, .int x6)]) dX6_most_113 rfl (Nat.le_of_ble_eq_true rfl) rfl ?_
        refine v_iload (q := 2) dX6_most_114 rfl ?_
        refine v_istore (lv1 := [(4, .int z_13), (3, .int x6), (5, .int z_15), (7, .int z_13), (0, va_rf (some (b 0))), (1, .int x1), (2, .int x2), (6, .int x6)]) dX6_most_116 (Nat.le_of_ble_eq_true rfl) rfl ?_
        refine v_sub [4, 5, 6, 1, 0, 2, 7] rfl ?_
        exact b_X6_most_118 hb (fun q0 q1 q2 q3 q4 q5 z => ih q0 q1 q2 q3 q4 q5 z) x6 z_13 z_15 x6 mi ma_14 hw
      · have hw := hw_19 c_17
        refine v_goto (tgt := 118) dX6_most_108 (by decide) ?_
        refine v_sub [2, 3, 4, 5, 6, 0, 7] rfl ?_
        exact b_X6_most_118 hb (fun q0 q1 q2 q3 q4 q5 z => ih q0 q1 q2 q3 q4 q5 z) x3 x4 z_15 x6 mi ma_14 hw
theorem e_X6_most {post : (Int32) → (Nat → Int32) → (Nat → Nat → Int32) → Prop}   {x1 : Int32} {x2 : Int32} {mi : Nat → Int32} {ma : Nat → Nat → Int32} {ml : Nat → Nat → Int64} (hb : mOK b)  (hw : w_X6_most post  x1 x2 mi ma ml) : VV l E X cX6_most RX6 "most" 8 r_X6_most (some .int) (vpi (fun (r : Int32) (h' : AH) => ∃ (mi' : Nat → Int32) (ma' : Nat → Nat → Int32), h' = (mH b mi' ma' ml) ∧ post r mi' ma')) (mH b mi ma ml) 0 0 0 [(0, va_rf (some (b 0))), (1, .int x1), (2, .int x2)] [] := by
  refine v_aload_n (q := 0) dX6_most_0 rfl rfl ?_
  refine v_iconst dX6_most_1 ic_0 ?_
  obtain ⟨mi_20, emi_20⟩ : ∃ z9 : Nat → Int32, z9 = upd mi 0 (nI 0) := ⟨_, rfl⟩
  replace hw := hw mi_20 emi_20
  refine vm_put hb 0 (Nat.le_of_ble_eq_true rfl) q1614 rfl rfl rfl dX6_most_2 emi_20 rfl ?_
  refine v_iload_n (q := 2) dX6_most_5 rfl rfl ?_
  refine v_i2l dX6_most_6 ?_
  refine v_lconst (v := lN 0) dX6_most_7 rfl ?_
  refine v_ldc2 (v := (lN 2)) dX6_most_8 q1985 ?_
  refine v_callS q1734 q1735 q113 q1736 n_X6_within ⟨Nat.le_of_ble_eq_true rfl, Nat.le_of_ble_eq_true rfl⟩ [.long ((x2).toInt64), .long (lN 0), .long (lN 2)] [] (met_X6_within hw) rfl (Nat.zero_le _) ⟨Nat.le_refl _, Nat.le_refl _⟩ dX6_most_11 rfl (v_ki (fun z_21 h1 hv => ?_))
  clear hw
  obtain ⟨e9, hw⟩ := hv
  refine v_heap e9 ?_
  clear e9
  obtain ⟨hw_24, hw_25⟩ := hw
  refine v_if_ne (tgt := 24) dX6_most_14 (by decide) (fun c_22 => ?_) (fun c_23 => ?_)
  · have hw := hw_24 c_22
    refine v_iload_n (q := 1) dX6_most_24 rfl rfl ?_
    refine v_i2l dX6_most_25 ?_
    refine v_lconst (v := lN 1) dX6_most_26 rfl ?_
    refine v_ldc2 (v := (lN 100)) dX6_most_27 q1770 ?_
    refine v_callS q1734 q1735 q113 q1736 n_X6_within ⟨Nat.le_of_ble_eq_true rfl, Nat.le_of_ble_eq_true rfl⟩ [.long ((x1).toInt64), .long (lN 1), .long (lN 100)] [] (met_X6_within hw) rfl (Nat.zero_le _) ⟨Nat.le_refl _, Nat.le_refl _⟩ dX6_most_30 rfl (v_ki (fun z_26 h1 hv => ?_))
    clear hw
    obtain ⟨e9, hw⟩ := hv
    refine v_heap e9 ?_
    clear e9
    obtain ⟨hw_29, hw_30⟩ := hw
    refine v_if_ne (tgt := 43) dX6_most_33 (by decide) (fun c_27 => ?_) (fun c_28 => ?_)
    · have hw := hw_29 c_27
      refine v_aload_n (q := 0) dX6_most_43 rfl rfl ?_
      refine vm_get hb 2 (Nat.le_of_ble_eq_true rfl) q1616 rfl dX6_most_44 rfl ?_
      refine v_sipush dX6_most_47 sp_223 ?_
      obtain ⟨hi_31, hw⟩ := hw
      refine v_iald dX6_most_50 (mH_ar2 hb) hi_31 ?_
      obtain ⟨hw_34, hw_35⟩ := hw
      refine v_if_ne (tgt := 61) dX6_most_51 (by decide) (fun c_32 => ?_) (fun c_33 => ?_)
      · have hw := hw_34 c_32
        refine v_iconst dX6_most_61 ic_0 ?_
        refine v_istore_n (lv1 := [(3, .int (nI 0)), (0, va_rf (some (b 0))), (1, .int x1), (2, .int x2)]) dX6_most_62 rfl (Nat.le_of_ble_eq_true rfl) rfl ?_
        refine v_iconst dX6_most_63 ic_0 ?_
        refine v_istore (lv1 := [(4, .int (nI 0)), (3, .int (nI 0)), (0, va_rf (some (b 0))), (1, .int x1), (2, .int x2)]) dX6_most_64 (Nat.le_of_ble_eq_true rfl) rfl ?_
        refine v_iconst dX6_most_66 ic_0 ?_
        refine v_istore (lv1 := [(5, .int (nI 0)), (4, .int (nI 0)), (3, .int (nI 0)), (0, va_rf (some (b 0))), (1, .int x1), (2, .int x2)]) dX6_most_67 (Nat.le_of_ble_eq_true rfl) rfl ?_
        refine v_iconst dX6_most_69 ic_0 ?_
        refine v_istore (lv1 := [(6, .int (nI 0)), (5, .int (nI 0)), (4, .int (nI 0)), (3, .int (nI 0)), (0, va_rf (some (b 0))), (1, .int x1), (2, .int x2)]) dX6_most_70 (Nat.le_of_ble_eq_true rfl) rfl ?_
        obtain ⟨n_36, hw⟩ := hw
        refine v_sub [4, 5, 6, 3, 2, 1, 0] rfl ?_
        exact b_X6_most_72 hb n_36 (nI 0) (nI 0) (nI 0) (nI 0) mi_20 ma hw
      · have hw := hw_35 c_33
        refine v_aload_n (q := 0) dX6_most_54 rfl rfl ?_
        refine v_bipush dX6_most_55 bp_m5 ?_
        refine v_callV q1737 q1739 qs53 q113 q1740 (ci := 7) rfl (mH_obj hb) n_X6_no ⟨Nat.le_of_ble_eq_true rfl, Nat.le_of_ble_eq_true rfl⟩ [.int (-5)] [] (met_X6_no hb hw) rfl (Nat.zero_le _) ⟨Nat.le_refl _, Nat.le_refl _⟩ dX6_most_57 rfl (v_ki (fun z_37 h1 hv => ?_))
        clear hw
        obtain ⟨ma_38, rfl, hw⟩ := hv
        exact v_iret dX6_most_60 rfl ⟨_, rfl, _, _, rfl, hw⟩
    · have hw := hw_30 c_28
      refine v_aload_n (q := 0) dX6_most_36 rfl rfl ?_
      refine v_bipush dX6_most_37 bp_m3 ?_
      refine v_callV q1737 q1739 qs53 q113 q1740 (ci := 7) rfl (mH_obj hb) n_X6_no ⟨Nat.le_of_ble_eq_true rfl, Nat.le_of_ble_eq_true rfl⟩ [.int (-3)] [] (met_X6_no hb hw) rfl (Nat.zero_le _) ⟨Nat.le_refl _, Nat.le_refl _⟩ dX6_most_39 rfl (v_ki (fun z_39 h1 hv => ?_))
      clear hw
      obtain ⟨ma_40, rfl, hw⟩ := hv
      exact v_iret dX6_most_42 rfl ⟨_, rfl, _, _, rfl, hw⟩
  · have hw := hw_25 c_23
    refine v_aload_n (q := 0) dX6_most_17 rfl rfl ?_
    refine v_bipush dX6_most_18 bp_m2 ?_
    refine v_callV q1737 q1739 qs53 q113 q1740 (ci := 7) rfl (mH_obj hb) n_X6_no ⟨Nat.le_of_ble_eq_true rfl, Nat.le_of_ble_eq_true rfl⟩ [.int (-2)] [] (met_X6_no hb hw) rfl (Nat.zero_le _) ⟨Nat.le_refl _, Nat.le_refl _⟩ dX6_most_20 rfl (v_ki (fun z_41 h1 hv => ?_))
    clear hw
    obtain ⟨ma_42, rfl, hw⟩ := hv
    exact v_iret dX6_most_23 rfl ⟨_, rfl, _, _, rfl, hw⟩
theorem met_X6_most {post : (Int32) → (Nat → Int32) → (Nat → Nat → Int32) → Prop}   {x1 : Int32} {x2 : Int32} {mi : Nat → Int32} {ma : Nat → Nat → Int32} {ml : Nat → Nat → Int64} (hb : mOK b)  (hw : w_X6_most post  x1 x2 mi ma ml) : Mt l E yX6_most (ws_ yX6_most cX6_most 8 (some .int)) r_X6_most [va_rf (some (b 0)), .int x1, .int x2] (mH b mi ma ml) (vpi (fun (r : Int32) (h' : AH) => ∃ (mi' : Nat → Int32) (ma' : Nat → Nat → Int32), h' = (mH b mi' ma' ml) ∧ post r mi' ma')) := v_entry (by decide +kernel) (Nat.le_of_ble_eq_true rfl) rfl (fun _ => e_X6_most hb hw)
/-! X6_addsBy -/
abbrev r_X6_addsBy : Room := { frames := 6, cells := 0, slots := 0, locals := 149 }
theorem n_X6_addsBy : vdn yX6_addsBy 3 := ⟨by decide +kernel, by decide +kernel, by decide +kernel⟩
def w_X6_addsBy_146 (post : (Int32) → (Nat → Int32) → (Nat → Nat → Int32) → (Nat → Nat → Int64) → Prop) (k10 : (Int32) → (Int32) → (Nat → Int32) → (Nat → Nat → Int32) → (Nat → Nat → Int64) → Prop) (k42 : (Int32) → (Int32) → (Int32) → (Int32) → (Nat → Int32) → (Nat → Nat → Int32) → (Nat → Nat → Int64) → Prop) (x1 : Int32) (x2 : Int32) (x3 : Int32) (x4 : Int32) (x5 : Int32) (x7 : Int32) (s0 : Int32) (mi : Nat → Int32) (ma : Nat → Nat → Int32) (ml : Nat → Nat → Int64) : Prop :=
 (∀ z_1 : Int32, z_1 = x7 + (nI 1) → (k42 x4 x5 s0 z_1 mi ma ml))
def w_X6_addsBy_141 (post : (Int32) → (Nat → Int32) → (Nat → Nat → Int32) → (Nat → Nat → Int64) → Prop) (k10 : (Int32) → (Int32) → (Nat → Int32) → (Nat → Nat → Int32) → (Nat → Nat → Int64) → Prop) (k42 : (Int32) → (Int32) → (Int32) → (Int32) → (Nat → Int32) → (Nat → Nat → Int32) → (Nat → Nat → Int64) → Prop) (x1 : Int32) (x2 : Int32) (x3 : Int32) (x4 : Int32) (x5 : Int32) (x7 : Int32) (mi : Nat → Int32) (ma : Nat → Nat → Int32) (ml : Nat → Nat → Int64) : Prop :=
 (w_X6_addsBy_146 post k10 k42 x1 x2 x3 x4 x5 x7 (nI 1) mi ma ml)
def w_X6_addsBy_174 (post : (Int32) → (Nat → Int32) → (Nat → Nat → Int32) → (Nat → Nat → Int64) → Prop) (k10 : (Int32) → (Int32) → (Nat → Int32) → (Nat → Nat → Int32) → (Nat → Nat → Int64) → Prop) (x1 : Int32) (x2 : Int32) (x3 : Int32) (x4 : Int32) (x5 : Int32) (mi : Nat → Int32) (ma : Nat → Nat → Int32) (ml : Nat → Nat → Int64) : Prop :=
 (∀ z_2 : Int32, z_2 = x5 + (nI 1) → (k10 x4 z_2 mi ma ml))
def w_X6_addsBy_154 (post : (Int32) → (Nat → Int32) → (Nat → Nat → Int32) → (Nat → Nat → Int64) → Prop) (k10 : (Int32) → (Int32) → (Nat → Int32) → (Nat → Nat → Int32) → (Nat → Nat → Int64) → Prop) (x1 : Int32) (x2 : Int32) (x3 : Int32) (x4 : Int32) (x5 : Int32) (x6 : Int32) (mi : Nat → Int32) (ma : Nat → Nat → Int32) (ml : Nat → Nat → Int64) : Prop :=
 ((¬ x6 = 0 → ((¬ x4 = x3 → (∀ z_11 : Int32, z_11 = x4 + (nI 1) → (w_X6_addsBy_174 post k10 x1 x2 x3 z_11 x5 mi ma ml))) ∧ (x4 = x3 → (post x5 mi ma ml)))) ∧ (x6 = 0 → (w_X6_addsBy_174 post k10 x1 x2 x3 x4 x5 mi ma ml)))
def w_X6_addsBy_42 (post : (Int32) → (Nat → Int32) → (Nat → Nat → Int32) → (Nat → Nat → Int64) → Prop) (k10 : (Int32) → (Int32) → (Nat → Int32) → (Nat → Nat → Int32) → (Nat → Nat → Int64) → Prop) (x1 : Int32) (x2 : Int32) (x3 : Int32) : Nat → (Int32) → (Int32) → (Int32) → (Int32) → (Nat → Int32) → (Nat → Nat → Int32) → (Nat → Nat → Int64) → Prop
 | 0, _, _, _, _, _, _, _ => False
 | n0 + 1, x4, x5, x6, x7, mi, ma, ml =>
 (vp_in ((nI 236) + x1) 3372 ∧ (((ma 2 (((nI 236) + x1)).toNatClampNeg) ≤ x7 → (w_X6_addsBy_154 post k10 x1 x2 x3 x4 x5 x6 mi ma ml)) ∧ (¬ (ma 2 (((nI 236) + x1)).toNatClampNeg) ≤ x7 → ((¬ x6 = 0 → (w_X6_addsBy_154 post k10 x1 x2 x3 x4 x5 x6 mi ma ml)) ∧ (x6 = 0 → (vp_in (((nI 540) + ((nI 12) * x1)) + x7) 2352 ∧ (∀ y_22 : Int64, y_22 = (ml 3 ((((nI 540) + ((nI 12) * x1)) + x7)).toNatClampNeg) → (vp_in ((nI 480) + x5) 2352 ∧ (w_X6_likeOf (fun (z_24 : Int32) (ma_25 : Nat → Nat → Int32) => (vp_in (nI 248) 3372 ∧ (((ma_25 2 ((nI 248)).toNatClampNeg) ≤ z_24 → (w_X6_addsBy_141 post k10 (fun (q0 : Int32) (q1 : Int32) (q2 : Int32) (q3 : Int32) (q4 : Nat → Int32) (q5 : Nat → Nat → Int32) (q6 : Nat → Nat → Int64) => w_X6_addsBy_42 post k10 x1 x2 x3 n0 q0 q1 q2 q3 q4 q5 q6) x1 x2 x3 x4 x5 x7 mi ma_25 ml)) ∧ (¬ (ma_25 2 ((nI 248)).toNatClampNeg) ≤ z_24 → (vp_in ((nI 480) + x5) 2352 ∧ (w_X6_smooth (fun (y_32 : Int64) (mi_33 : Nat → Int32) (ma_34 : Nat → Nat → Int32) => (w_X6_likeOf (fun (z_35 : Int32) (ma_36 : Nat → Nat → Int32) => (vp_in (nI 248) 3372 ∧ ((z_35 < (ma_36 2 ((nI 248)).toNatClampNeg) → (w_X6_addsBy_146 post k10 (fun (q0 : Int32) (q1 : Int32) (q2 : Int32) (q3 : Int32) (q4 : Nat → Int32) (q5 : Nat → Nat → Int32) (q6 : Nat → Nat → Int64) => w_X6_addsBy_42 post k10 x1 x2 x3 n0 q0 q1 q2 q3 q4 q5 q6) x1 x2 x3 x4 x5 x7 (nI 0) mi_33 ma_36 ml)) ∧ (¬ z_35 < (ma_36 2 ((nI 248)).toNatClampNeg) → (w_X6_addsBy_141 post k10 (fun (q0 : Int32) (q1 : Int32) (q2 : Int32) (q3 : Int32) (q4 : Nat → Int32) (q5 : Nat → Nat → Int32) (q6 : Nat → Nat → Int64) => w_X6_addsBy_42 post k10 x1 x2 x3 n0 q0 q1 q2 q3 q4 q5 q6) x1 x2 x3 x4 x5 x7 mi_33 ma_36 ml))))) (ml 3 (((nI 480) + x5)).toNatClampNeg) y_32 mi_33 ma_34 ml)) y_22 x2 mi ma_25 ml)))))) (ml 3 (((nI 480) + x5)).toNatClampNeg) y_22 mi ma ml)))))))))
def w_X6_addsBy_10 (post : (Int32) → (Nat → Int32) → (Nat → Nat → Int32) → (Nat → Nat → Int64) → Prop) (x1 : Int32) (x2 : Int32) (x3 : Int32) : Nat → (Int32) → (Int32) → (Nat → Int32) → (Nat → Nat → Int32) → (Nat → Nat → Int64) → Prop
 | 0, _, _, _, _, _ => False
 | n0 + 1, x4, x5, mi, ma, ml =>
 (vp_in (nI 162) 3372 ∧ (((ma 2 ((nI 162)).toNatClampNeg) ≤ x5 → ((¬ x3 = (-1) → (post (-1) mi ma ml)) ∧ (x3 = (-1) → (post x4 mi ma ml)))) ∧ (¬ (ma 2 ((nI 162)).toNatClampNeg) ≤ x5 → (w_X6_whoseIs (fun (z_51 : Int32) (mi_52 : Nat → Int32) (ma_53 : Nat → Nat → Int32) => (((nI 3) ≤ z_51 → (∃ n1 : Nat, (w_X6_addsBy_42 post (fun (q0 : Int32) (q1 : Int32) (q2 : Nat → Int32) (q3 : Nat → Nat → Int32) (q4 : Nat → Nat → Int64) => w_X6_addsBy_10 post x1 x2 x3 n0 q0 q1 q2 q3 q4) x1 x2 x3 n1 x4 x5 (nI 0) (nI 0) mi_52 ma_53 ml))) ∧ (¬ (nI 3) ≤ z_51 → (w_X6_addsBy_174 post (fun (q0 : Int32) (q1 : Int32) (q2 : Nat → Int32) (q3 : Nat → Nat → Int32) (q4 : Nat → Nat → Int64) => w_X6_addsBy_10 post x1 x2 x3 n0 q0 q1 q2 q3 q4) x1 x2 x3 x4 x5 mi_52 ma_53 ml)))) x5 mi ma ml))))
def w_X6_addsBy (post : (Int32) → (Nat → Int32) → (Nat → Nat → Int32) → (Nat → Nat → Int64) → Prop) (x1 : Int32) (x2 : Int32) (x3 : Int32) (mi : Nat → Int32) (ma : Nat → Nat → Int32) (ml : Nat → Nat → Int64) : Prop :=
 (w_X6_smooths (fun (mi_59 : Nat → Int32) (ma_60 : Nat → Nat → Int32) (ml_61 : Nat → Nat → Int64) => (∃ n1 : Nat, (w_X6_addsBy_10 post x1 x2 x3 n1 (nI 0) (nI 0) mi_59 ma_60 ml_61))) mi ma ml)
theorem b_X6_addsBy_146 {post : (Int32) → (Nat → Int32) → (Nat → Nat → Int32) → (Nat → Nat → Int64) → Prop}   {x1 : Int32} {x2 : Int32} {x3 : Int32} {k10 : (Int32) → (Int32) → (Nat → Int32) → (Nat → Nat → Int32) → (Nat → Nat → Int64) → Prop} {k42 : (Int32) → (Int32) → (Int32) → (Int32) → (Nat → Int32) → (Nat → Nat → Int32) → (Nat → Nat → Int64) → Prop} (hb : mOK b)  (hk10 : ∀ (x4 : Int32) (x5 : Int32) (mi : Nat → Int32) (ma : Nat → Nat → Int32) (ml : Nat → Nat → Int64), k10 x4 x5 mi ma ml → VV l E X cX6_addsBy RX6 "addsBy" 10 r_X6_addsBy (some .int) (vpi (fun (r : Int32) (h' : AH) => ∃ (mi' : Nat → Int32) (ma' : Nat → Nat → Int32) (ml' : Nat → Nat → Int64), h' = (mH b mi' ma' ml') ∧ post r mi' ma' ml')) (mH b mi ma ml) 0 0 10 [(0, va_rf (some (b 0))), (1, .int x1), (2, .int x2), (3, .int x3), (4, .int x4), (5, .int x5)] []) (hk42 : ∀ (x4 : Int32) (x5 : Int32) (x6 : Int32) (x7 : Int32) (mi : Nat → Int32) (ma : Nat → Nat → Int32) (ml : Nat → Nat → Int64), k42 x4 x5 x6 x7 mi ma ml → VV l E X cX6_addsBy RX6 "addsBy" 10 r_X6_addsBy (some .int) (vpi (fun (r : Int32) (h' : AH) => ∃ (mi' : Nat → Int32) (ma' : Nat → Nat → Int32) (ml' : Nat → Nat → Int64), h' = (mH b mi' ma' ml') ∧ post r mi' ma' ml')) (mH b mi ma ml) 0 0 42 [(0, va_rf (some (b 0))), (1, .int x1), (2, .int x2), (3, .int x3), (4, .int x4), (5, .int x5), (6, .int x6), (7, .int x7)] []) (x4 : Int32) (x5 : Int32) (x7 : Int32) (s0 : Int32) (mi : Nat → Int32) (ma : Nat → Nat → Int32) (ml : Nat → Nat → Int64) (hw : w_X6_addsBy_146 post k10 k42 x1 x2 x3 x4 x5 x7 s0 mi ma ml) : VV l E X cX6_addsBy RX6 "addsBy" 10 r_X6_addsBy (some .int) (vpi (fun (r : Int32) (h' : AH) => ∃ (mi' : Nat → Int32) (ma' : Nat → Nat → Int32) (ml' : Nat → Nat → Int64), h' = (mH b mi' ma' ml') ∧ post r mi' ma' ml')) (mH b mi ma ml) 0 0 146 [(0, va_rf (some (b 0))), (1, .int x1), (2, .int x2), (3, .int x3), (4, .int x4), (5, .int x5), (7, .int x7)] [.int s0] := by
  refine v_istore (lv1 := [(6, .int s0), (0, va_rf (some (b 0))), (1, .int x1), (2, .int x2), (3, .int x3), (4, .int x4), (5, .int x5), (7, .int x7)]) dX6_addsBy_146 (Nat.le_of_ble_eq_true rfl) rfl ?_
  obtain ⟨z_1, e_1⟩ : ∃ z9 : Int32, z9 = x7 + (nI 1) := ⟨_, rfl⟩
  replace hw := hw z_1 e_1
  refine v_iinc (q := 7) (v := z_1) (lv1 := [(7, .int z_1), (6, .int s0), (0, va_rf (some (b 0))), (1, .int x1), (2, .int x2), (3, .int x3), (4, .int x4), (5, .int x5)]) dX6_addsBy_148 rfl (by rw [e_1, ic_1]) (Nat.le_of_ble_eq_true rfl) rfl ?_
  refine v_goto (tgt := 42) dX6_addsBy_151 (by decide) ?_
  refine v_sub [2, 3, 4, 5, 6, 7, 1, 0] rfl ?_
  exact hk42 x4 x5 s0 z_1 mi ma ml hw
theorem b_X6_addsBy_141 {post : (Int32) → (Nat → Int32) → (Nat → Nat → Int32) → (Nat → Nat → Int64) → Prop}   {x1 : Int32} {x2 : Int32} {x3 : Int32} {k10 : (Int32) → (Int32) → (Nat → Int32) → (Nat → Nat → Int32) → (Nat → Nat → Int64) → Prop} {k42 : (Int32) → (Int32) → (Int32) → (Int32) → (Nat → Int32) → (Nat → Nat → Int32) → (Nat → Nat → Int64) → Prop} (hb : mOK b)  (hk10 : ∀ (x4 : Int32) (x5 : Int32) (mi : Nat → Int32) (ma : Nat → Nat → Int32) (ml : Nat → Nat → Int64), k10 x4 x5 mi ma ml → VV l E X cX6_addsBy RX6 "addsBy" 10 r_X6_addsBy (some .int) (vpi (fun (r : Int32) (h' : AH) => ∃ (mi' : Nat → Int32) (ma' : Nat → Nat → Int32) (ml' : Nat → Nat → Int64), h' = (mH b mi' ma' ml') ∧ post r mi' ma' ml')) (mH b mi ma ml) 0 0 10 [(0, va_rf (some (b 0))), (1, .int x1), (2, .int x2), (3, .int x3), (4, .int x4), (5, .int x5)] []) (hk42 : ∀ (x4 : Int32) (x5 : Int32) (x6 : Int32) (x7 : Int32) (mi : Nat → Int32) (ma : Nat → Nat → Int32) (ml : Nat → Nat → Int64), k42 x4 x5 x6 x7 mi ma ml → VV l E X cX6_addsBy RX6 "addsBy" 10 r_X6_addsBy (some .int) (vpi (fun (r : Int32) (h' : AH) => ∃ (mi' : Nat → Int32) (ma' : Nat → Nat → Int32) (ml' : Nat → Nat → Int64), h' = (mH b mi' ma' ml') ∧ post r mi' ma' ml')) (mH b mi ma ml) 0 0 42 [(0, va_rf (some (b 0))), (1, .int x1), (2, .int x2), (3, .int x3), (4, .int x4), (5, .int x5), (6, .int x6), (7, .int x7)] []) (x4 : Int32) (x5 : Int32) (x7 : Int32) (mi : Nat → Int32) (ma : Nat → Nat → Int32) (ml : Nat → Nat → Int64) (hw : w_X6_addsBy_141 post k10 k42 x1 x2 x3 x4 x5 x7 mi ma ml) : VV l E X cX6_addsBy RX6 "addsBy" 10 r_X6_addsBy (some .int) (vpi (fun (r : Int32) (h' : AH) => ∃ (mi' : Nat → Int32) (ma' : Nat → Nat → Int32) (ml' : Nat → Nat → Int64), h' = (mH b mi' ma' ml') ∧ post r mi' ma' ml')) (mH b mi ma ml) 0 0 141 [(0, va_rf (some (b 0))), (1, .int x1), (2, .int x2), (3, .int x3), (4, .int x4), (5, .int x5), (7, .int x7)] [] := by
  refine v_iconst dX6_addsBy_141 ic_1 ?_
  refine v_goto (tgt := 146) dX6_addsBy_142 (by decide) ?_
  refine v_sub [0, 1, 2, 3, 4, 5, 6] rfl ?_
  exact b_X6_addsBy_146 hb hk10 hk42 x4 x5 x7 (nI 1) mi ma ml hw
theorem b_X6_addsBy_174 {post : (Int32) → (Nat → Int32) → (Nat → Nat → Int32) → (Nat → Nat → Int64) → Prop}   {x1 : Int32} {x2 : Int32} {x3 : Int32} {k10 : (Int32) → (Int32) → (Nat → Int32) → (Nat → Nat → Int32) → (Nat → Nat → Int64) → Prop} (hb : mOK b)  (hk10 : ∀ (x4 : Int32) (x5 : Int32) (mi : Nat → Int32) (ma : Nat → Nat → Int32) (ml : Nat → Nat → Int64), k10 x4 x5 mi ma ml → VV l E X cX6_addsBy RX6 "addsBy" 10 r_X6_addsBy (some .int) (vpi (fun (r : Int32) (h' : AH) => ∃ (mi' : Nat → Int32) (ma' : Nat → Nat → Int32) (ml' : Nat → Nat → Int64), h' = (mH b mi' ma' ml') ∧ post r mi' ma' ml')) (mH b mi ma ml) 0 0 10 [(0, va_rf (some (b 0))), (1, .int x1), (2, .int x2), (3, .int x3), (4, .int x4), (5, .int x5)] []) (x4 : Int32) (x5 : Int32) (mi : Nat → Int32) (ma : Nat → Nat → Int32) (ml : Nat → Nat → Int64) (hw : w_X6_addsBy_174 post k10 x1 x2 x3 x4 x5 mi ma ml) : VV l E X cX6_addsBy RX6 "addsBy" 10 r_X6_addsBy (some .int) (vpi (fun (r : Int32) (h' : AH) => ∃ (mi' : Nat → Int32) (ma' : Nat → Nat → Int32) (ml' : Nat → Nat → Int64), h' = (mH b mi' ma' ml') ∧ post r mi' ma' ml')) (mH b mi ma ml) 0 0 174 [(0, va_rf (some (b 0))), (1, .int x1), (2, .int x2), (3, .int x3), (4, .int x4), (5, .int x5)] [] := by
  obtain ⟨z_2, e_2⟩ : ∃ z9 : Int32, z9 = x5 + (nI 1) := ⟨_, rfl⟩
  replace hw := hw z_2 e_2
  refine v_iinc (q := 5) (v := z_2) (lv1 := [(5, .int z_2), (0, va_rf (some (b 0))), (1, .int x1), (2, .int x2), (3, .int x3), (4, .int x4)]) dX6_addsBy_174 rfl (by rw [e_2, ic_1]) (Nat.le_of_ble_eq_true rfl) rfl ?_
  refine v_goto (tgt := 10) dX6_addsBy_177 (by decide) ?_
  refine v_sub [1, 2, 3, 4, 5, 0] rfl ?_
  exact hk10 x4 z_2 mi ma ml hw
theorem b_X6_addsBy_154 {post : (Int32) → (Nat → Int32) → (Nat → Nat → Int32) → (Nat → Nat → Int64) → Prop}   {x1 : Int32} {x2 : Int32} {x3 : Int32} {k10 : (Int32) → (Int32) → (Nat → Int32) → (Nat → Nat → Int32) → (Nat → Nat → Int64) → Prop} (hb : mOK b)  (hk10 : ∀ (x4 : Int32) (x5 : Int32) (mi : Nat → Int32) (ma : Nat → Nat → Int32) (ml : Nat → Nat → Int64), k10 x4 x5 mi ma ml → VV l E X cX6_addsBy RX6 "addsBy" 10 r_X6_addsBy (some .int) (vpi (fun (r : Int32) (h' : AH) => ∃ (mi' : Nat → Int32) (ma' : Nat → Nat → Int32) (ml' : Nat → Nat → Int64), h' = (mH b mi' ma' ml') ∧ post r mi' ma' ml')) (mH b mi ma ml) 0 0 10 [(0, va_rf (some (b 0))), (1, .int x1), (2, .int x2), (3, .int x3), (4, .int x4), (5, .int x5)] []) (x4 : Int32) (x5 : Int32) (x6 : Int32) (mi : Nat → Int32) (ma : Nat → Nat → Int32) (ml : Nat → Nat → Int64) (hw : w_X6_addsBy_154 post k10 x1 x2 x3 x4 x5 x6 mi ma ml) : VV l E X cX6_addsBy RX6 "addsBy" 10 r_X6_addsBy (some .int) (vpi (fun (r : Int32) (h' : AH) => ∃ (mi' : Nat → Int32) (ma' : Nat → Nat → Int32) (ml' : Nat → Nat → Int64), h' = (mH b mi' ma' ml') ∧ post r mi' ma' ml')) (mH b mi ma ml) 0 0 154 [(0, va_rf (some (b 0))), (1, .int x1), (2, .int x2), (3, .int x3), (4, .int x4), (5, .int x5), (6, .int x6)] [] := by
  refine v_iload (q := 6) dX6_addsBy_154 rfl ?_
  obtain ⟨hw_5, hw_6⟩ := hw
  refine v_if_ne (tgt := 162) dX6_addsBy_156 (by decide) (fun c_3 => ?_) (fun c_4 => ?_)
  · have hw := hw_5 c_3
    refine v_iload (q := 4) dX6_addsBy_162 rfl ?_
    refine v_iload_n (q := 3) dX6_addsBy_164 rfl rfl ?_
    obtain ⟨hw_9, hw_10⟩ := hw
    refine v_icmp_ne (tgt := 171) dX6_addsBy_165 (by decide) (fun c_7 => ?_) (fun c_8 => ?_)
    · have hw := hw_9 c_7
      obtain ⟨z_11, e_11⟩ : ∃ z9 : Int32, z9 = x4 + (nI 1) := ⟨_, rfl⟩
      replace hw := hw z_11 e_11
      refine v_iinc (q := 4) (v := z_11) (lv1 := [(4, .int z_11), (0, va_rf (some (b 0))), (1, .int x1), (2, .int x2), (3, .int x3), (5, .int x5), (6, .int x6)]) dX6_addsBy_171 rfl (by rw [e_11, ic_1]) (Nat.le_of_ble_eq_true rfl) rfl ?_
      refine v_sub [1, 2, 3, 4, 0, 5] rfl ?_
      exact b_X6_addsBy_174 hb hk10 z_11 x5 mi ma ml hw
    · have hw := hw_10 c_8
      refine v_iload (q := 5) dX6_addsBy_168 rfl ?_
      exact v_iret dX6_addsBy_170 rfl ⟨_, rfl, _, _, _, rfl, hw⟩
  · have hw := hw_6 c_4
    refine v_goto (tgt := 174) dX6_addsBy_159 (by decide) ?_
    refine v_sub [0, 1, 2, 3, 4, 5] rfl ?_
    exact b_X6_addsBy_174 hb hk10 x4 x5 mi ma ml hw
theorem b_X6_addsBy_42 {post : (Int32) → (Nat → Int32) → (Nat → Nat → Int32) → (Nat → Nat → Int64) → Prop}   {x1 : Int32} {x2 : Int32} {x3 : Int32} {k10 : (Int32) → (Int32) → (Nat → Int32) → (Nat → Nat → Int32) → (Nat → Nat → Int64) → Prop} (hb : mOK b)  (hk10 : ∀ (x4 : Int32) (x5 : Int32) (mi : Nat → Int32) (ma : Nat → Nat → Int32) (ml : Nat → Nat → Int64), k10 x4 x5 mi ma ml → VV l E X cX6_addsBy RX6 "addsBy" 10 r_X6_addsBy (some .int) (vpi (fun (r : Int32) (h' : AH) => ∃ (mi' : Nat → Int32) (ma' : Nat → Nat → Int32) (ml' : Nat → Nat → Int64), h' = (mH b mi' ma' ml') ∧ post r mi' ma' ml')) (mH b mi ma ml) 0 0 10 [(0, va_rf (some (b 0))), (1, .int x1), (2, .int x2), (3, .int x3), (4, .int x4), (5, .int x5)] []) : ∀ (n0 : Nat) (x4 : Int32) (x5 : Int32) (x6 : Int32) (x7 : Int32) (mi : Nat → Int32) (ma : Nat → Nat → Int32) (ml : Nat → Nat → Int64), w_X6_addsBy_42 post k10 x1 x2 x3 n0 x4 x5 x6 x7 mi ma ml → VV l E X cX6_addsBy RX6 "addsBy" 10 r_X6_addsBy (some .int) (vpi (fun (r : Int32) (h' : AH) => ∃ (mi' : Nat → Int32) (ma' : Nat → Nat → Int32) (ml' : Nat → Nat → Int64), h' = (mH b mi' ma' ml') ∧ post r mi' ma' ml')) (mH b mi ma ml) 0 0 42 [(0, va_rf (some (b 0))), (1, .int x1), (2, .int x2), (3, .int x3), (4, .int x4), (5, .int x5), (6, .int x6), (7, .int x7)] [] := by
  intro n0
  induction n0 with
  | zero =>
    intro x4 x5 x6 x7 mi ma ml hw
    exact hw.elim
  | succ n0 ih =>
    intro x4 x5 x6 x7 mi ma ml hw
    refine v_iload (q := 7) dX6_addsBy_42 rfl ?_
    refine v_aload_n (q := 0) dX6_addsBy_44 rfl rfl ?_
    refine vm_get hb 2 (Nat.le_of_ble_eq_true rfl) q1616 rfl dX6_addsBy_45 rfl ?_
    refine v_sipush dX6_addsBy_48 sp_236 ?_
    refine v_iload_n (q := 1) dX6_addsBy_51 rfl rfl ?_
    refine v_iadd dX6_addsBy_52 ?_
    obtain ⟨hi_12, hw⟩ := hw
    refine v_iald dX6_addsBy_53 (mH_ar2 hb) hi_12 ?_
    obtain ⟨hw_15, hw_16⟩ := hw
    refine v_icmp_ge (tgt := 154) dX6_addsBy_54 (by decide) (fun c_13 => ?_) (fun c_14 => ?_)
    · have hw := hw_15 c_13
      refine v_sub [0, 1, 2, 3, 4, 5, 6] rfl ?_
      exact b_X6_addsBy_154 hb hk10 x4 x5 x6 mi ma ml hw
    · have hw := hw_16 c_14
      refine v_iload (q := 6) dX6_addsBy_57 rfl ?_
      obtain ⟨hw_19, hw_20⟩ := hw
      refine v_if_ne (tgt := 154) dX6_addsBy_59 (by decide) (fun c_17 => ?_) (fun c_18 => ?_)
      · have hw := hw_19 c_17
        refine v_sub [0, 1, 2, 3, 4, 5, 6] rfl ?_
        exact b_X6_addsBy_154 hb hk10 x4 x5 x6 mi ma ml hw
      · have hw := hw_20 c_18
        refine v_aload_n (q := 0) dX6_addsBy_62 rfl rfl ?_
        refine vm_get hb 3 (Nat.le_of_ble_eq_true rfl) q1617 rfl dX6_addsBy_63 rfl ?_
        refine v_sipush dX6_addsBy_66 sp_540 ?_
        refine v_bipush dX6_addsBy_69 bp_12 ?_
        refine v_iload_n (q := 1) dX6_addsBy_71 rfl rfl ?_
        refine v_imul dX6_addsBy_72 ?_
        refine v_iadd dX6_addsBy_73 ?_
        refine v_iload (q := 7) dX6_addsBy_74 rfl ?_
        refine v_iadd dX6_addsBy_76 ?_
        obtain ⟨hi_21, hw⟩ := hw
        refine v_lald dX6_addsBy_77 (mH_ar3 hb) hi_21 ?_
        refine v_topl (fun y_22 e_22 => ?_)
        replace hw := hw y_22 e_22
        refine v_lstore (lv1 := [(8, .long y_22), (0, va_rf (some (b 0))), (1, .int x1), (2, .int x2), (3, .int x3), (4, .int x4), (5, .int x5), (6, .int x6), (7, .int x7)]) dX6_addsBy_78 (Nat.le_of_ble_eq_true rfl) rfl ?_
        refine v_aload_n (q := 1) dX6_addsBy_80 rfl rfl ?_
        refine v_aload_n (q := 1) dX6_addsBy_81 rfl rfl ?_
        refine vm_get hb 3 (Nat.le_of_ble_eq_true rfl) q1617 rfl dX6_addsBy_82 rfl ?_
        refine v_sipush dX6_addsBy_85 sp_480 ?_
        refine v_iload (q := 6) dX6_addsBy_88 rfl ?_
        refine v_iadd dX6_addsBy_90 ?_
        obtain ⟨hi_23, hw⟩ := hw
        refine v_lald dX6_addsBy_91 (mH_ar3 hb) hi_23 ?_
        refine v_lload (q := 0) dX6_addsBy_92 rfl ?_
        refine v_callV q1783 q1785 qs56 q113 q1786 (ci := 7) rfl (mH_obj hb) n_X6_likeOf ⟨Nat.le_of_ble_eq_true rfl, Nat.le_of_ble_eq_true rfl⟩ [.long (ml 3 (((nI 480) + x5)).toNatClampNeg), .long y_22] [] (met_X6_likeOf hb hw) rfl (Nat.zero_le _) ⟨Nat.le_refl _, Nat.le_refl _⟩ dX6_addsBy_94 rfl (v_ki (fun z_24 h1 hv => ?_))
        clear hw
        obtain ⟨ma_25, rfl, hw⟩ := hv
        refine v_aload_n (q := 1) dX6_addsBy_97 rfl rfl ?_
        refine vm_get hb 2 (Nat.le_of_ble_eq_true rfl) q1616 rfl dX6_addsBy_98 rfl ?_
        refine v_sipush dX6_addsBy_101 sp_248 ?_
        obtain ⟨hi_26, hw⟩ := hw
        refine v_iald dX6_addsBy_104 (mH_ar2 hb) hi_26 ?_
        obtain ⟨hw_29, hw_30⟩ := hw
        refine v_icmp_ge (tgt := 141) dX6_addsBy_105 (by decide) (fun c_27 => ?_) (fun c_28 => ?_)
        · have hw := hw_29 c_27
          refine v_sub [1, 2, 3, 4, 5, 6, 8] rfl ?_
          exact b_X6_addsBy_141 hb hk10 (fun q0 q1 q2 q3 q4 q5 q6 z => ih q0 q1 q2 q3 q4 q5 q6 z) x4 x5 x7 mi ma_25 ml hw
        · have hw := hw_30 c_28
          refine v_aload_n (q := 1) dX6_addsBy_108 rfl rfl ?_
          refine v_aload_n (q := 1) dX6_addsBy_109 rfl rfl ?_
          refine vm_get hb 3 (Nat.le_of_ble_eq_true rfl) q1617 rfl dX6_addsBy_110 rfl ?_
          refine v_sipush dX6_addsBy_113 sp_480 ?_
          refine v_iload (q := 6) dX6_addsBy_116 rfl ?_
          refine v_iadd dX6_addsBy_118 ?_
          obtain ⟨hi_31, hw⟩ := hw
          refine v_lald dX6_addsBy_119 (mH_ar3 hb) hi_31 ?_
          refine v_aload_n (q := 1) dX6_addsBy_120 rfl rfl ?_
          refine v_lload (q := 0) dX6_addsBy_121 rfl ?_
          refine v_iload_n (q := 3) dX6_addsBy_123 rfl rfl ?_
          refine v_callV q1874 q1876 qs72 q113 q1877 (ci := 7) rfl (mH_obj hb) n_X6_smooth ⟨Nat.le_of_ble_eq_true rfl, Nat.le_of_ble_eq_true rfl⟩ [.long y_22, .int x2] [.long (ml 3 (((nI 480) + x5)).toNatClampNeg), va_rf (some (b 0))] (met_X6_smooth hb hw) rfl (by simp only [List.map_cons, List.map_nil, List.sum_cons, List.sum_nil, v_rf1, v_cI, v_cJ]; decide) ⟨Nat.le_refl _, Nat.le_refl _⟩ dX6_addsBy_124 rfl (v_kl (fun y_32 h1 hv => ?_))
          clear hw
          obtain ⟨mi_33, ma_34, rfl, hw⟩ := hv
          refine v_callV q1783 q1785 qs56 q113 q1786 (ci := 7) rfl (mH_obj hb) n_X6_likeOf ⟨Nat.le_of_ble_eq_true rfl, Nat.le_of_ble_eq_true rfl⟩ [.long (ml 3 (((nI 480) + x5)).toNatClampNeg), .long y_32] [] (met_X6_likeOf hb hw) rfl (Nat.zero_le _) ⟨Nat.le_refl _, Nat.le_refl _⟩ dX6_addsBy_127 rfl (v_ki (fun z_35 h1 hv => ?_))
          clear hw
          obtain ⟨ma_36, rfl, hw⟩ := hv
          refine v_aload_n (q := 1) dX6_addsBy_130 rfl rfl ?_
          refine vm_get hb 2 (Nat.le_of_ble_eq_true rfl) q1616 rfl dX6_addsBy_131 rfl ?_
          refine v_sipush dX6_addsBy_134 sp_248 ?_
          obtain ⟨hi_37, hw⟩ := hw
          refine v_iald dX6_addsBy_137 (mH_ar2 hb) hi_37 ?_
          obtain ⟨hw_40, hw_41⟩ := hw
          refine v_icmp_lt (tgt := 145) dX6_addsBy_138 (by decide) (fun c_38 => ?_) (fun c_39 => ?_)
          · have hw := hw_40 c_38
            refine v_iconst dX6_addsBy_145 ic_0 ?_
            refine v_sub [1, 2, 3, 4, 5, 6, 8] rfl ?_
            exact b_X6_addsBy_146 hb hk10 (fun q0 q1 q2 q3 q4 q5 q6 z => ih q0 q1 q2 q3 q4 q5 q6 z) x4 x5 x7 (nI 0) mi_33 ma_36 ml hw
          · have hw := hw_41 c_39
            refine v_sub [1, 2, 3, 4, 5, 6, 8] rfl ?_
            exact b_X6_addsBy_141 hb hk10 (fun q0 q1 q2 q3 q4 q5 q6 z => ih q0 q1 q2 q3 q4 q5 q6 z) x4 x5 x7 mi_33 ma_36 ml hw
theorem b_X6_addsBy_10 {post : (Int32) → (Nat → Int32) → (Nat → Nat → Int32) → (Nat → Nat → Int64) → Prop}   {x1 : Int32} {x2 : Int32} {x3 : Int32}  (hb : mOK b)   : ∀ (n0 : Nat) (x4 : Int32) (x5 : Int32) (mi : Nat → Int32) (ma : Nat → Nat → Int32) (ml : Nat → Nat → Int64), w_X6_addsBy_10 post x1 x2 x3 n0 x4 x5 mi ma ml → VV l E X cX6_addsBy RX6 "addsBy" 10 r_X6_addsBy (some .int) (vpi (fun (r : Int32) (h' : AH) => ∃ (mi' : Nat → Int32) (ma' : Nat → Nat → Int32) (ml' : Nat → Nat → Int64), h' = (mH b mi' ma' ml') ∧ post r mi' ma' ml')) (mH b mi ma ml) 0 0 10 [(0, va_rf (some (b 0))), (1, .int x1), (2, .int x2), (3, .int x3), (4, .int x4), (5, .int x5)] [] := by
  intro n0
  induction n0 with
  | zero =>
    intro x4 x5 mi ma ml hw
    exact hw.elim
  | succ n0 ih =>
    intro x4 x5 mi ma ml hw
    refine v_iload (q := 5) dX6_addsBy_10 rfl ?_
    refine v_aload_n (q := 0) dX6_addsBy_12 rfl rfl ?_
    refine vm_get hb 2 (Nat.le_of_ble_eq_true rfl) q1616 rfl dX6_addsBy_13 rfl ?_
    refine v_sipush dX6_addsBy_16 sp_162 ?_
    obtain ⟨hi_42, hw⟩ := hw
    refine v_iald dX6_addsBy_19 (mH_ar2 hb) hi_42 ?_
    obtain ⟨hw_45, hw_46⟩ := hw
    refine v_icmp_ge (tgt := 180) dX6_addsBy_20 (by decide) (fun c_43 => ?_) (fun c_44 => ?_)
    · have hw := hw_45 c_43
      refine v_iload_n (q := 3) dX6_addsBy_180 rfl rfl ?_
      refine v_iconst dX6_addsBy_181 ic_m1 ?_
      obtain ⟨hw_49, hw_50⟩ := hw
      refine v_icmp_ne (tgt := 190) dX6_addsBy_182 (by decide) (fun c_47 => ?_) (fun c_48 => ?_)
      · have hw := hw_49 c_47
        refine v_iconst dX6_addsBy_190 ic_m1 ?_
        exact v_iret dX6_addsBy_191 rfl ⟨_, rfl, _, _, _, rfl, hw⟩
      · have hw := hw_50 c_48
        refine v_iload (q := 4) dX6_addsBy_185 rfl ?_
        refine v_goto (tgt := 191) dX6_addsBy_187 (by decide) ?_
        exact v_iret dX6_addsBy_191 rfl ⟨_, rfl, _, _, _, rfl, hw⟩
    · have hw := hw_46 c_44
      refine v_aload_n (q := 0) dX6_addsBy_23 rfl rfl ?_
      refine v_iload (q := 5) dX6_addsBy_24 rfl ?_
      refine v_callV q1919 q1921 qs81 q113 q1922 (ci := 7) rfl (mH_obj hb) n_X6_whoseIs ⟨Nat.le_of_ble_eq_true rfl, Nat.le_of_ble_eq_true rfl⟩ [.int x5] [] (met_X6_whoseIs hb hw) rfl (Nat.zero_le _) ⟨Nat.le_refl _, Nat.le_refl _⟩ dX6_addsBy_26 rfl (v_ki (fun z_51 h1 hv => ?_))
      clear hw
      obtain ⟨mi_52, ma_53, rfl, hw⟩ := hv
      refine v_iconst dX6_addsBy_29 ic_3 ?_
      obtain ⟨hw_56, hw_57⟩ := hw
      refine v_icmp_ge (tgt := 36) dX6_addsBy_30 (by decide) (fun c_54 => ?_) (fun c_55 => ?_)
      · have hw := hw_56 c_54
        refine v_iconst dX6_addsBy_36 ic_0 ?_
        refine v_istore (lv1 := [(6, .int (nI 0)), (0, va_rf (some (b 0))), (1, .int x1), (2, .int x2), (3, .int x3), (4, .int x4), (5, .int x5)]) dX6_addsBy_37 (Nat.le_of_ble_eq_true rfl) rfl ?_
        refine v_iconst dX6_addsBy_39 ic_0 ?_
        refine v_istore (lv1 := [(7, .int (nI 0)), (6, .int (nI 0)), (0, va_rf (some (b 0))), (1, .int x1), (2, .int x2), (3, .int x3), (4, .int x4), (5, .int x5)]) dX6_addsBy_40 (Nat.le_of_ble_eq_true rfl) rfl ?_
        obtain ⟨n_58, hw⟩ := hw
        refine v_sub [2, 3, 4, 5, 6, 7, 1, 0] rfl ?_
        exact b_X6_addsBy_42 hb (fun q0 q1 q2 q3 q4 z => ih q0 q1 q2 q3 q4 z) n_58 x4 x5 (nI 0) (nI 0) mi_52 ma_53 ml hw
      · have hw := hw_57 c_55
        refine v_goto (tgt := 174) dX6_addsBy_33 (by decide) ?_
        refine v_sub [0, 1, 2, 3, 4, 5] rfl ?_
        exact b_X6_addsBy_174 hb (fun q0 q1 q2 q3 q4 z => ih q0 q1 q2 q3 q4 z) x4 x5 mi_52 ma_53 ml hw
theorem e_X6_addsBy {post : (Int32) → (Nat → Int32) → (Nat → Nat → Int32) → (Nat → Nat → Int64) → Prop}   {x1 : Int32} {x2 : Int32} {x3 : Int32} {mi : Nat → Int32} {ma : Nat → Nat → Int32} {ml : Nat → Nat → Int64} (hb : mOK b)  (hw : w_X6_addsBy post  x1 x2 x3 mi ma ml) : VV l E X cX6_addsBy RX6 "addsBy" 10 r_X6_addsBy (some .int) (vpi (fun (r : Int32) (h' : AH) => ∃ (mi' : Nat → Int32) (ma' : Nat → Nat → Int32) (ml' : Nat → Nat → Int64), h' = (mH b mi' ma' ml') ∧ post r mi' ma' ml')) (mH b mi ma ml) 0 0 0 [(0, va_rf (some (b 0))), (1, .int x1), (2, .int x2), (3, .int x3)] [] := by
  refine v_aload_n (q := 0) dX6_addsBy_0 rfl rfl ?_
  refine v_callV q1911 q1913 qs79 q113 q1914 (ci := 7) rfl (mH_obj hb) n_X6_smooths ⟨Nat.le_of_ble_eq_true rfl, Nat.le_of_ble_eq_true rfl⟩ [] [] (met_X6_smooths hb hw) rfl (Nat.zero_le _) ⟨Nat.le_refl _, Nat.le_refl _⟩ dX6_addsBy_1 rfl (v_kv (fun h1 hv => ?_))
  clear hw
  obtain ⟨mi_59, ma_60, ml_61, rfl, hw⟩ := hv
  refine v_iconst dX6_addsBy_4 ic_0 ?_
  refine v_istore (lv1 := [(4, .int (nI 0)), (0, va_rf (some (b 0))), (1, .int x1), (2, .int x2), (3, .int x3)]) dX6_addsBy_5 (Nat.le_of_ble_eq_true rfl) rfl ?_
  refine v_iconst dX6_addsBy_7 ic_0 ?_
  refine v_istore (lv1 := [(5, .int (nI 0)), (4, .int (nI 0)), (0, va_rf (some (b 0))), (1, .int x1), (2, .int x2), (3, .int x3)]) dX6_addsBy_8 (Nat.le_of_ble_eq_true rfl) rfl ?_
  obtain ⟨n_62, hw⟩ := hw
  refine v_sub [2, 3, 4, 5, 1, 0] rfl ?_
  exact b_X6_addsBy_10 hb n_62 (nI 0) (nI 0) mi_59 ma_60 ml_61 hw
theorem met_X6_addsBy {post : (Int32) → (Nat → Int32) → (Nat → Nat → Int32) → (Nat → Nat → Int64) → Prop}   {x1 : Int32} {x2 : Int32} {x3 : Int32} {mi : Nat → Int32} {ma : Nat → Nat → Int32} {ml : Nat → Nat → Int64} (hb : mOK b)  (hw : w_X6_addsBy post  x1 x2 x3 mi ma ml) : Mt l E yX6_addsBy (ws_ yX6_addsBy cX6_addsBy 10 (some .int)) r_X6_addsBy [va_rf (some (b 0)), .int x1, .int x2, .int x3] (mH b mi ma ml) (vpi (fun (r : Int32) (h' : AH) => ∃ (mi' : Nat → Int32) (ma' : Nat → Nat → Int32) (ml' : Nat → Nat → Int64), h' = (mH b mi' ma' ml') ∧ post r mi' ma' ml')) := v_entry (by decide +kernel) (Nat.le_of_ble_eq_true rfl) rfl (fun _ => e_X6_addsBy hb hw)
/-! X6_adds -/
abbrev r_X6_adds : Room := { frames := 7, cells := 0, slots := 0, locals := 178 }
theorem n_X6_adds : vdn yX6_adds 2 := ⟨by decide +kernel, by decide +kernel, by decide +kernel⟩
def w_X6_adds (post : (Int32) → (Nat → Int32) → (Nat → Nat → Int32) → (Nat → Nat → Int64) → Prop) (x1 : Int32) (x2 : Int32) (mi : Nat → Int32) (ma : Nat → Nat → Int32) (ml : Nat → Nat → Int64) : Prop :=
 (∀ mi_1 : Nat → Int32, mi_1 = upd mi 0 (nI 0) → (vp_in (nI 223) 3372 ∧ (w_X6_within (fun (z_3 : Int32) => ((¬ z_3 = 0 → (w_X6_within (fun (z_8 : Int32) => ((¬ z_8 = 0 → (w_X6_addsBy (fun (z_13 : Int32) (mi_14 : Nat → Int32) (ma_15 : Nat → Nat → Int32) (ml_16 : Nat → Nat → Int64) => (post z_13 mi_14 ma_15 ml_16)) x1 x2 (-1) mi_1 ma ml)) ∧ (z_8 = 0 → (w_X6_no (fun (z_17 : Int32) (ma_18 : Nat → Nat → Int32) => (post z_17 mi_1 ma_18 ml)) (-3) mi_1 ma ml)))) ((x2).toInt64) (lN 0) (lN 9))) ∧ (z_3 = 0 → (w_X6_no (fun (z_19 : Int32) (ma_20 : Nat → Nat → Int32) => (post z_19 mi_1 ma_20 ml)) (-2) mi_1 ma ml)))) ((x1).toInt64) (lN 0) ((((ma 2 ((nI 223)).toNatClampNeg) - (nI 1))).toInt64))))
theorem e_X6_adds {post : (Int32) → (Nat → Int32) → (Nat → Nat → Int32) → (Nat → Nat → Int64) → Prop}   {x1 : Int32} {x2 : Int32} {mi : Nat → Int32} {ma : Nat → Nat → Int32} {ml : Nat → Nat → Int64} (hb : mOK b)  (hw : w_X6_adds post  x1 x2 mi ma ml) : VV l E X cX6_adds RX6 "adds" 3 r_X6_adds (some .int) (vpi (fun (r : Int32) (h' : AH) => ∃ (mi' : Nat → Int32) (ma' : Nat → Nat → Int32) (ml' : Nat → Nat → Int64), h' = (mH b mi' ma' ml') ∧ post r mi' ma' ml')) (mH b mi ma ml) 0 0 0 [(0, va_rf (some (b 0))), (1, .int x1), (2, .int x2)] [] := by
  refine v_aload_n (q := 0) dX6_adds_0 rfl rfl ?_
  refine v_iconst dX6_adds_1 ic_0 ?_
  obtain ⟨mi_1, emi_1⟩ : ∃ z9 : Nat → Int32, z9 = upd mi 0 (nI 0) := ⟨_, rfl⟩
  replace hw := hw mi_1 emi_1
  refine vm_put hb 0 (Nat.le_of_ble_eq_true rfl) q1614 rfl rfl rfl dX6_adds_2 emi_1 rfl ?_
  refine v_iload_n (q := 1) dX6_adds_5 rfl rfl ?_
  refine v_i2l dX6_adds_6 ?_
  refine v_lconst (v := lN 0) dX6_adds_7 rfl ?_
  refine v_aload_n (q := 0) dX6_adds_8 rfl rfl ?_
  refine vm_get hb 2 (Nat.le_of_ble_eq_true rfl) q1616 rfl dX6_adds_9 rfl ?_
  refine v_sipush dX6_adds_12 sp_223 ?_
  obtain ⟨hi_2, hw⟩ := hw
  refine v_iald dX6_adds_15 (mH_ar2 hb) hi_2 ?_
  refine v_iconst dX6_adds_16 ic_1 ?_
  refine v_isub dX6_adds_17 ?_
  refine v_i2l dX6_adds_18 ?_
  refine v_callS q1734 q1735 q113 q1736 n_X6_within ⟨Nat.le_of_ble_eq_true rfl, Nat.le_of_ble_eq_true rfl⟩ [.long ((x1).toInt64), .long (lN 0), .long ((((ma 2 ((nI 223)).toNatClampNeg) - (nI 1))).toInt64)] [] (met_X6_within hw) rfl (Nat.zero_le _) ⟨Nat.le_refl _, Nat.le_refl _⟩ dX6_adds_19 rfl (v_ki (fun z_3 h1 hv => ?_))
  clear hw
  obtain ⟨e9, hw⟩ := hv
  refine v_heap e9 ?_
  clear e9
  obtain ⟨hw_6, hw_7⟩ := hw
  refine v_if_ne (tgt := 32) dX6_adds_22 (by decide) (fun c_4 => ?_) (fun c_5 => ?_)
  · have hw := hw_6 c_4
    refine v_iload_n (q := 2) dX6_adds_32 rfl rfl ?_
    refine v_i2l dX6_adds_33 ?_
    refine v_lconst (v := lN 0) dX6_adds_34 rfl ?_
    refine v_ldc2 (v := (lN 9)) dX6_adds_35 q1741 ?_
    refine v_callS q1734 q1735 q113 q1736 n_X6_within ⟨Nat.le_of_ble_eq_true rfl, Nat.le_of_ble_eq_true rfl⟩ [.long ((x2).toInt64), .long (lN 0), .long (lN 9)] [] (met_X6_within hw) rfl (Nat.zero_le _) ⟨Nat.le_refl _, Nat.le_refl _⟩ dX6_adds_38 rfl (v_ki (fun z_8 h1 hv => ?_))
    clear hw
    obtain ⟨e9, hw⟩ := hv
    refine v_heap e9 ?_
    clear e9
    obtain ⟨hw_11, hw_12⟩ := hw
    refine v_if_ne (tgt := 51) dX6_adds_41 (by decide) (fun c_9 => ?_) (fun c_10 => ?_)
    · have hw := hw_11 c_9
      refine v_aload_n (q := 0) dX6_adds_51 rfl rfl ?_
      refine v_iload_n (q := 1) dX6_adds_52 rfl rfl ?_
      refine v_iload_n (q := 2) dX6_adds_53 rfl rfl ?_
      refine v_iconst dX6_adds_54 ic_m1 ?_
      refine v_callV q1990 q1992 qs89 q113 q1993 (ci := 7) rfl (mH_obj hb) n_X6_addsBy ⟨Nat.le_of_ble_eq_true rfl, Nat.le_of_ble_eq_true rfl⟩ [.int x1, .int x2, .int (-1)] [] (met_X6_addsBy hb hw) rfl (Nat.zero_le _) ⟨Nat.le_refl _, Nat.le_refl _⟩ dX6_adds_55 rfl (v_ki (fun z_13 h1 hv => ?_))
      clear hw
      obtain ⟨mi_14, ma_15, ml_16, rfl, hw⟩ := hv
      exact v_iret dX6_adds_58 rfl ⟨_, rfl, _, _, _, rfl, hw⟩
    · have hw := hw_12 c_10
      refine v_aload_n (q := 0) dX6_adds_44 rfl rfl ?_
      refine v_bipush dX6_adds_45 bp_m3 ?_
      refine v_callV q1737 q1739 qs53 q113 q1740 (ci := 7) rfl (mH_obj hb) n_X6_no ⟨Nat.le_of_ble_eq_true rfl, Nat.le_of_ble_eq_true rfl⟩ [.int (-3)] [] (met_X6_no hb hw) rfl (Nat.zero_le _) ⟨Nat.le_refl _, Nat.le_refl _⟩ dX6_adds_47 rfl (v_ki (fun z_17 h1 hv => ?_))
      clear hw
      obtain ⟨ma_18, rfl, hw⟩ := hv
      exact v_iret dX6_adds_50 rfl ⟨_, rfl, _, _, _, rfl, hw⟩
  · have hw := hw_7 c_5
    refine v_aload_n (q := 0) dX6_adds_25 rfl rfl ?_
    refine v_bipush dX6_adds_26 bp_m2 ?_
    refine v_callV q1737 q1739 qs53 q113 q1740 (ci := 7) rfl (mH_obj hb) n_X6_no ⟨Nat.le_of_ble_eq_true rfl, Nat.le_of_ble_eq_true rfl⟩ [.int (-2)] [] (met_X6_no hb hw) rfl (Nat.zero_le _) ⟨Nat.le_refl _, Nat.le_refl _⟩ dX6_adds_28 rfl (v_ki (fun z_19 h1 hv => ?_))
    clear hw
    obtain ⟨ma_20, rfl, hw⟩ := hv
    exact v_iret dX6_adds_31 rfl ⟨_, rfl, _, _, _, rfl, hw⟩
theorem met_X6_adds {post : (Int32) → (Nat → Int32) → (Nat → Nat → Int32) → (Nat → Nat → Int64) → Prop}   {x1 : Int32} {x2 : Int32} {mi : Nat → Int32} {ma : Nat → Nat → Int32} {ml : Nat → Nat → Int64} (hb : mOK b)  (hw : w_X6_adds post  x1 x2 mi ma ml) : Mt l E yX6_adds (ws_ yX6_adds cX6_adds 3 (some .int)) r_X6_adds [va_rf (some (b 0)), .int x1, .int x2] (mH b mi ma ml) (vpi (fun (r : Int32) (h' : AH) => ∃ (mi' : Nat → Int32) (ma' : Nat → Nat → Int32) (ml' : Nat → Nat → Int64), h' = (mH b mi' ma' ml') ∧ post r mi' ma' ml')) := v_entry (by decide +kernel) (Nat.le_of_ble_eq_true rfl) rfl (fun _ => e_X6_adds hb hw)
/-! X6_added -/
abbrev r_X6_added : Room := { frames := 7, cells := 0, slots := 0, locals := 178 }
theorem n_X6_added : vdn yX6_added 3 := ⟨by decide +kernel, by decide +kernel, by decide +kernel⟩
def w_X6_added (post : (Int32) → (Nat → Int32) → (Nat → Nat → Int32) → (Nat → Nat → Int64) → Prop) (x1 : Int32) (x2 : Int32) (x3 : Int32) (mi : Nat → Int32) (ma : Nat → Nat → Int32) (ml : Nat → Nat → Int64) : Prop :=
 (∀ mi_1 : Nat → Int32, mi_1 = upd mi 0 (nI 0) → (vp_in (nI 223) 3372 ∧ (w_X6_within (fun (z_3 : Int32) => ((¬ z_3 = 0 → (w_X6_within (fun (z_8 : Int32) => ((¬ z_8 = 0 → ((0 ≤ x3 → (w_X6_addsBy (fun (z_17 : Int32) (mi_18 : Nat → Int32) (ma_19 : Nat → Nat → Int32) (ml_20 : Nat → Nat → Int64) => (post z_17 mi_18 ma_19 ml_20)) x1 x2 x3 mi_1 ma ml)) ∧ (¬ 0 ≤ x3 → (post (-1) mi_1 ma ml)))) ∧ (z_8 = 0 → (w_X6_no (fun (z_21 : Int32) (ma_22 : Nat → Nat → Int32) => (post z_21 mi_1 ma_22 ml)) (-3) mi_1 ma ml)))) ((x2).toInt64) (lN 0) (lN 9))) ∧ (z_3 = 0 → (w_X6_no (fun (z_23 : Int32) (ma_24 : Nat → Nat → Int32) => (post z_23 mi_1 ma_24 ml)) (-2) mi_1 ma ml)))) ((x1).toInt64) (lN 0) ((((ma 2 ((nI 223)).toNatClampNeg) - (nI 1))).toInt64))))
theorem e_X6_added {post : (Int32) → (Nat → Int32) → (Nat → Nat → Int32) → (Nat → Nat → Int64) → Prop}   {x1 : Int32} {x2 : Int32} {x3 : Int32} {mi : Nat → Int32} {ma : Nat → Nat → Int32} {ml : Nat → Nat → Int64} (hb : mOK b)  (hw : w_X6_added post  x1 x2 x3 mi ma ml) : VV l E X cX6_added RX6 "added" 4 r_X6_added (some .int) (vpi (fun (r : Int32) (h' : AH) => ∃ (mi' : Nat → Int32) (ma' : Nat → Nat → Int32) (ml' : Nat → Nat → Int64), h' = (mH b mi' ma' ml') ∧ post r mi' ma' ml')) (mH b mi ma ml) 0 0 0 [(0, va_rf (some (b 0))), (1, .int x1), (2, .int x2), (3, .int x3)] [] := by
  refine v_aload_n (q := 0) dX6_added_0 rfl rfl ?_
  refine v_iconst dX6_added_1 ic_0 ?_
  obtain ⟨mi_1, emi_1⟩ : ∃ z9 : Nat → Int32, z9 = upd mi 0 (nI 0) := ⟨_, rfl⟩
  replace hw := hw mi_1 emi_1
  refine vm_put hb 0 (Nat.le_of_ble_eq_true rfl) q1614 rfl rfl rfl dX6_added_2 emi_1 rfl ?_
  refine v_iload_n (q := 1) dX6_added_5 rfl rfl ?_
  refine v_i2l dX6_added_6 ?_
  refine v_lconst (v := lN 0) dX6_added_7 rfl ?_
  refine v_aload_n (q := 0) dX6_added_8 rfl rfl ?_
  refine vm_get hb 2 (Nat.le_of_ble_eq_true rfl) q1616 rfl dX6_added_9 rfl ?_
  refine v_sipush dX6_added_12 sp_223 ?_
  obtain ⟨hi_2, hw⟩ := hw
  refine v_iald dX6_added_15 (mH_ar2 hb) hi_2 ?_
  refine v_iconst dX6_added_16 ic_1 ?_
  refine v_isub dX6_added_17 ?_
  refine v_i2l dX6_added_18 ?_
  refine v_callS q1734 q1735 q113 q1736 n_X6_within ⟨Nat.le_of_ble_eq_true rfl, Nat.le_of_ble_eq_true rfl⟩ [.long ((x1).toInt64), .long (lN 0), .long ((((ma 2 ((nI 223)).toNatClampNeg) - (nI 1))).toInt64)] [] (met_X6_within hw) rfl (Nat.zero_le _) ⟨Nat.le_refl _, Nat.le_refl _⟩ dX6_added_19 rfl (v_ki (fun z_3 h1 hv => ?_))
  clear hw
  obtain ⟨e9, hw⟩ := hv
  refine v_heap e9 ?_
  clear e9
  obtain ⟨hw_6, hw_7⟩ := hw
  refine v_if_ne (tgt := 32) dX6_added_22 (by decide) (fun c_4 => ?_) (fun c_5 => ?_)
  · have hw := hw_6 c_4
    refine v_iload_n (q := 2) dX6_added_32 rfl rfl ?_
    refine v_i2l dX6_added_33 ?_
    refine v_lconst (v := lN 0) dX6_added_34 rfl ?_
    refine v_ldc2 (v := (lN 9)) dX6_added_35 q1741 ?_
    refine v_callS q1734 q1735 q113 q1736 n_X6_within ⟨Nat.le_of_ble_eq_true rfl, Nat.le_of_ble_eq_true rfl⟩ [.long ((x2).toInt64), .long (lN 0), .long (lN 9)] [] (met_X6_within hw) rfl (Nat.zero_le _) ⟨Nat.le_refl _, Nat.le_refl _⟩ dX6_added_38 rfl (v_ki (fun z_8 h1 hv => ?_))
    clear hw
    obtain ⟨e9, hw⟩ := hv
    refine v_heap e9 ?_
    clear e9
    obtain ⟨hw_11, hw_12⟩ := hw
    refine v_if_ne (tgt := 51) dX6_added_41 (by decide) (fun c_9 => ?_) (fun c_10 => ?_)
    · have hw := hw_11 c_9
      refine v_iload_n (q := 3) dX6_added_51 rfl rfl ?_
      obtain ⟨hw_15, hw_16⟩ := hw
      refine v_if_ge (tgt := 59) dX6_added_52 (by decide) (fun c_13 => ?_) (fun c_14 => ?_)
      · have hw := hw_15 c_13
        refine v_aload_n (q := 0) dX6_added_59 rfl rfl ?_
        refine v_iload_n (q := 1) dX6_added_60 rfl rfl ?_
        refine v_iload_n (q := 2) dX6_added_61 rfl rfl ?_
        refine v_iload_n (q := 3) dX6_added_62 rfl rfl ?_
        refine v_callV q1990 q1992 qs89 q113 q1993 (ci := 7) rfl (mH_obj hb) n_X6_addsBy ⟨Nat.le_of_ble_eq_true rfl, Nat.le_of_ble_eq_true rfl⟩ [.int x1, .int x2, .int x3] [] (met_X6_addsBy hb hw) rfl (Nat.zero_le _) ⟨Nat.le_refl _, Nat.le_refl _⟩ dX6_added_63 rfl (v_ki (fun z_17 h1 hv => ?_))
        clear hw
        obtain ⟨mi_18, ma_19, ml_20, rfl, hw⟩ := hv
        exact v_iret dX6_added_66 rfl ⟨_, rfl, _, _, _, rfl, hw⟩
      · have hw := hw_16 c_14
        refine v_iconst dX6_added_55 ic_m1 ?_
        refine v_goto (tgt := 66) dX6_added_56 (by decide) ?_
        exact v_iret dX6_added_66 rfl ⟨_, rfl, _, _, _, rfl, hw⟩
    · have hw := hw_12 c_10
      refine v_aload_n (q := 0) dX6_added_44 rfl rfl ?_
      refine v_bipush dX6_added_45 bp_m3 ?_
      refine v_callV q1737 q1739 qs53 q113 q1740 (ci := 7) rfl (mH_obj hb) n_X6_no ⟨Nat.le_of_ble_eq_true rfl, Nat.le_of_ble_eq_true rfl⟩ [.int (-3)] [] (met_X6_no hb hw) rfl (Nat.zero_le _) ⟨Nat.le_refl _, Nat.le_refl _⟩ dX6_added_47 rfl (v_ki (fun z_21 h1 hv => ?_))
      clear hw
      obtain ⟨ma_22, rfl, hw⟩ := hv
      exact v_iret dX6_added_50 rfl ⟨_, rfl, _, _, _, rfl, hw⟩
  · have hw := hw_7 c_5
    refine v_aload_n (q := 0) dX6_added_25 rfl rfl ?_
    refine v_bipush dX6_added_26 bp_m2 ?_
    refine v_callV q1737 q1739 qs53 q113 q1740 (ci := 7) rfl (mH_obj hb) n_X6_no ⟨Nat.le_of_ble_eq_true rfl, Nat.le_of_ble_eq_true rfl⟩ [.int (-2)] [] (met_X6_no hb hw) rfl (Nat.zero_le _) ⟨Nat.le_refl _, Nat.le_refl _⟩ dX6_added_28 rfl (v_ki (fun z_23 h1 hv => ?_))
    clear hw
    obtain ⟨ma_24, rfl, hw⟩ := hv
    exact v_iret dX6_added_31 rfl ⟨_, rfl, _, _, _, rfl, hw⟩
theorem met_X6_added {post : (Int32) → (Nat → Int32) → (Nat → Nat → Int32) → (Nat → Nat → Int64) → Prop}   {x1 : Int32} {x2 : Int32} {x3 : Int32} {mi : Nat → Int32} {ma : Nat → Nat → Int32} {ml : Nat → Nat → Int64} (hb : mOK b)  (hw : w_X6_added post  x1 x2 x3 mi ma ml) : Mt l E yX6_added (ws_ yX6_added cX6_added 4 (some .int)) r_X6_added [va_rf (some (b 0)), .int x1, .int x2, .int x3] (mH b mi ma ml) (vpi (fun (r : Int32) (h' : AH) => ∃ (mi' : Nat → Int32) (ma' : Nat → Nat → Int32) (ml' : Nat → Nat → Int64), h' = (mH b mi' ma' ml') ∧ post r mi' ma' ml')) := v_entry (by decide +kernel) (Nat.le_of_ble_eq_true rfl) rfl (fun _ => e_X6_added hb hw)
/-! X6_year -/
abbrev r_X6_year : Room := { frames := 1, cells := 0, slots := 0, locals := 25 }
theorem n_X6_year : vdn yX6_year 2 := ⟨by decide +kernel, by decide +kernel, by decide +kernel⟩
def w_X6_year (post : (Int32) → (Nat → Int32) → (Nat → Nat → Int32) → Prop) (x1 : Int32) (x2 : Int32) (mi : Nat → Int32) (ma : Nat → Nat → Int32) (ml : Nat → Nat → Int64) : Prop :=
 (∀ mi_1 : Nat → Int32, mi_1 = upd mi 0 (nI 0) → (w_X6_within (fun (z_2 : Int32) => ((¬ z_2 = 0 → (w_X6_within (fun (z_7 : Int32) => ((¬ z_7 = 0 → (vp_in ((nI 250) + x1) 3372 ∧ (∀ z_13 : Int32, z_13 = (ma 2 (((nI 250) + x1)).toNatClampNeg) → (vp_in ((nI 250) + x1) 3372 ∧ ∀ ma_15 : Nat → Nat → Int32, ma_15 = mup ma 2 (((nI 250) + x1)).toNatClampNeg x2 → (post z_13 mi_1 ma_15))))) ∧ (z_7 = 0 → (w_X6_no (fun (z_16 : Int32) (ma_17 : Nat → Nat → Int32) => (post z_16 mi_1 ma_17)) (-3) mi_1 ma ml)))) ((x2).toInt64) (lN 0) (lN 9999))) ∧ (z_2 = 0 → (w_X6_no (fun (z_18 : Int32) (ma_19 : Nat → Nat → Int32) => (post z_18 mi_1 ma_19)) (-2) mi_1 ma ml)))) ((x1).toInt64) (lN 1) (lN 255)))
theorem e_X6_year {post : (Int32) → (Nat → Int32) → (Nat → Nat → Int32) → Prop}   {x1 : Int32} {x2 : Int32} {mi : Nat → Int32} {ma : Nat → Nat → Int32} {ml : Nat → Nat → Int64} (hb : mOK b)  (hw : w_X6_year post  x1 x2 mi ma ml) : VV l E X cX6_year RX6 "year" 4 r_X6_year (some .int) (vpi (fun (r : Int32) (h' : AH) => ∃ (mi' : Nat → Int32) (ma' : Nat → Nat → Int32), h' = (mH b mi' ma' ml) ∧ post r mi' ma')) (mH b mi ma ml) 0 0 0 [(0, va_rf (some (b 0))), (1, .int x1), (2, .int x2)] [] := by
  refine v_aload_n (q := 0) dX6_year_0 rfl rfl ?_
  refine v_iconst dX6_year_1 ic_0 ?_
  obtain ⟨mi_1, emi_1⟩ : ∃ z9 : Nat → Int32, z9 = upd mi 0 (nI 0) := ⟨_, rfl⟩
  replace hw := hw mi_1 emi_1
  refine vm_put hb 0 (Nat.le_of_ble_eq_true rfl) q1614 rfl rfl rfl dX6_year_2 emi_1 rfl ?_
  refine v_iload_n (q := 1) dX6_year_5 rfl rfl ?_
  refine v_i2l dX6_year_6 ?_
  refine v_lconst (v := lN 1) dX6_year_7 rfl ?_
  refine v_ldc2 (v := (lN 255)) dX6_year_8 q2002 ?_
  refine v_callS q1734 q1735 q113 q1736 n_X6_within ⟨Nat.le_of_ble_eq_true rfl, Nat.le_of_ble_eq_true rfl⟩ [.long ((x1).toInt64), .long (lN 1), .long (lN 255)] [] (met_X6_within hw) rfl (Nat.zero_le _) ⟨Nat.le_refl _, Nat.le_refl _⟩ dX6_year_11 rfl (v_ki (fun z_2 h1 hv => ?_))
  clear hw
  obtain ⟨e9, hw⟩ := hv
  refine v_heap e9 ?_
  clear e9
  obtain ⟨hw_5, hw_6⟩ := hw
  refine v_if_ne (tgt := 24) dX6_year_14 (by decide) (fun c_3 => ?_) (fun c_4 => ?_)
  · have hw := hw_5 c_3
    refine v_iload_n (q := 2) dX6_year_24 rfl rfl ?_
    refine v_i2l dX6_year_25 ?_
    refine v_lconst (v := lN 0) dX6_year_26 rfl ?_
    refine v_ldc2 (v := (lN 9999)) dX6_year_27 q1743 ?_
    refine v_callS q1734 q1735 q113 q1736 n_X6_within ⟨Nat.le_of_ble_eq_true rfl, Nat.le_of_ble_eq_true rfl⟩ [.long ((x2).toInt64), .long (lN 0), .long (lN 9999)] [] (met_X6_within hw) rfl (Nat.zero_le _) ⟨Nat.le_refl _, Nat.le_refl _⟩ dX6_year_30 rfl (v_ki (fun z_7 h1 hv => ?_))
    clear hw
    obtain ⟨e9, hw⟩ := hv
    refine v_heap e9 ?_
    clear e9
    obtain ⟨hw_10, hw_11⟩ := hw
    refine v_if_ne (tgt := 43) dX6_year_33 (by decide) (fun c_8 => ?_) (fun c_9 => ?_)
    · have hw := hw_10 c_8
      refine v_aload_n (q := 0) dX6_year_43 rfl rfl ?_
      refine vm_get hb 2 (Nat.le_of_ble_eq_true rfl) q1616 rfl dX6_year_44 rfl ?_
      refine v_sipush dX6_year_47 sp_250 ?_
      refine v_iload_n (q := 1) dX6_year_50 rfl rfl ?_
      refine v_iadd dX6_year_51 ?_
      obtain ⟨hi_12, hw⟩ := hw
      refine v_iald dX6_year_52 (mH_ar2 hb) hi_12 ?_
      refine v_topi (fun z_13 e_13 => ?_)
      replace hw := hw z_13 e_13
      refine v_istore_n (lv1 := [(3, .int z_13), (0, va_rf (some (b 0))), (1, .int x1), (2, .int x2)]) dX6_year_53 rfl (Nat.le_of_ble_eq_true rfl) rfl ?_
      refine v_aload_n (q := 1) dX6_year_54 rfl rfl ?_
      refine vm_get hb 2 (Nat.le_of_ble_eq_true rfl) q1616 rfl dX6_year_55 rfl ?_
      refine v_sipush dX6_year_58 sp_250 ?_
      refine v_iload_n (q := 2) dX6_year_61 rfl rfl ?_
      refine v_iadd dX6_year_62 ?_
      refine v_iload_n (q := 3) dX6_year_63 rfl rfl ?_
      obtain ⟨hi_14, hw⟩ := hw
      obtain ⟨ma_15, ema_15⟩ : ∃ z9 : Nat → Nat → Int32, z9 = mup ma 2 (((nI 250) + x1)).toNatClampNeg x2 := ⟨_, rfl⟩
      replace hw := hw ma_15 ema_15
      refine v_iast dX6_year_64 (mH_ar2 hb) hi_14 ?_
      refine v_heap (h' := mH b mi_1 ma_15 ml) (by rw [ema_15]; exact mH_st2 hb) ?_
      refine v_iload_n (q := 0) dX6_year_65 rfl rfl ?_
      exact v_iret dX6_year_66 rfl ⟨_, rfl, _, _, rfl, hw⟩
    · have hw := hw_11 c_9
      refine v_aload_n (q := 0) dX6_year_36 rfl rfl ?_
      refine v_bipush dX6_year_37 bp_m3 ?_
      refine v_callV q1737 q1739 qs53 q113 q1740 (ci := 7) rfl (mH_obj hb) n_X6_no ⟨Nat.le_of_ble_eq_true rfl, Nat.le_of_ble_eq_true rfl⟩ [.int (-3)] [] (met_X6_no hb hw) rfl (Nat.zero_le _) ⟨Nat.le_refl _, Nat.le_refl _⟩ dX6_year_39 rfl (v_ki (fun z_16 h1 hv => ?_))
      clear hw
      obtain ⟨ma_17, rfl, hw⟩ := hv
      exact v_iret dX6_year_42 rfl ⟨_, rfl, _, _, rfl, hw⟩
  · have hw := hw_6 c_4
    refine v_aload_n (q := 0) dX6_year_17 rfl rfl ?_
    refine v_bipush dX6_year_18 bp_m2 ?_
    refine v_callV q1737 q1739 qs53 q113 q1740 (ci := 7) rfl (mH_obj hb) n_X6_no ⟨Nat.le_of_ble_eq_true rfl, Nat.le_of_ble_eq_true rfl⟩ [.int (-2)] [] (met_X6_no hb hw) rfl (Nat.zero_le _) ⟨Nat.le_refl _, Nat.le_refl _⟩ dX6_year_20 rfl (v_ki (fun z_18 h1 hv => ?_))
    clear hw
    obtain ⟨ma_19, rfl, hw⟩ := hv
    exact v_iret dX6_year_23 rfl ⟨_, rfl, _, _, rfl, hw⟩
theorem met_X6_year {post : (Int32) → (Nat → Int32) → (Nat → Nat → Int32) → Prop}   {x1 : Int32} {x2 : Int32} {mi : Nat → Int32} {ma : Nat → Nat → Int32} {ml : Nat → Nat → Int64} (hb : mOK b)  (hw : w_X6_year post  x1 x2 mi ma ml) : Mt l E yX6_year (ws_ yX6_year cX6_year 4 (some .int)) r_X6_year [va_rf (some (b 0)), .int x1, .int x2] (mH b mi ma ml) (vpi (fun (r : Int32) (h' : AH) => ∃ (mi' : Nat → Int32) (ma' : Nat → Nat → Int32), h' = (mH b mi' ma' ml) ∧ post r mi' ma')) := v_entry (by decide +kernel) (Nat.le_of_ble_eq_true rfl) rfl (fun _ => e_X6_year hb hw)
/-! X6_version -/
abbrev r_X6_version : Room := { frames := 3, cells := 0, slots := 0, locals := 69 }
theorem n_X6_version : vdn yX6_version 4 := ⟨by decide +kernel, by decide +kernel, by decide +kernel⟩
def w_X6_version_45 (post : (Int32) → (Nat → Int32) → (Nat → Nat → Int32) → (Nat → Nat → Int64) → Prop) (x1 : Int64) (x3 : Int64) (x5 : Int32) (x6 : Int32) (mi : Nat → Int32) (ma : Nat → Nat → Int32) (ml : Nat → Nat → Int64) : Prop :=
 (w_X6_no (fun (z_1 : Int32) (ma_2 : Nat → Nat → Int32) => (post z_1 mi ma_2 ml)) (-3) mi ma ml)
def w_X6_version (post : (Int32) → (Nat → Int32) → (Nat → Nat → Int32) → (Nat → Nat → Int64) → Prop) (x1 : Int64) (x3 : Int64) (x5 : Int32) (x6 : Int32) (mi : Nat → Int32) (ma : Nat → Nat → Int32) (ml : Nat → Nat → Int64) : Prop :=
 (∀ mi_3 : Nat → Int32, mi_3 = upd mi 0 (nI 0) → (w_X6_lengthOf (fun (z_4 : Int32) => ((z_4 = 0 → (w_X6_version_45 post x1 x3 x5 x6 mi_3 ma ml)) ∧ (¬ z_4 = 0 → (w_X6_lengthOf (fun (z_9 : Int32) => ((z_9 = 0 → (w_X6_version_45 post x1 x3 x5 x6 mi_3 ma ml)) ∧ (¬ z_9 = 0 → (w_X6_within (fun (z_14 : Int32) => ((z_14 = 0 → (w_X6_version_45 post x1 x3 x5 x6 mi_3 ma ml)) ∧ (¬ z_14 = 0 → (w_X6_within (fun (z_19 : Int32) => ((¬ z_19 = 0 → (vp_in (nI 506) 3372 ∧ (∀ z_25 : Int32, z_25 = (ma 2 ((nI 506)).toNatClampNeg) → ((¬ z_25 = (nI 20) → (w_X6_plain (fun (y_30 : Int64) => (vp_in ((nI 684) + z_25) 2352 ∧ ∀ ml_32 : Nat → Nat → Int64, ml_32 = mupL ml 3 (((nI 684) + z_25)).toNatClampNeg y_30 → (w_X6_plain (fun (y_33 : Int64) => (vp_in ((nI 704) + z_25) 2352 ∧ ∀ ml_35 : Nat → Nat → Int64, ml_35 = mupL ml_32 3 (((nI 704) + z_25)).toNatClampNeg y_33 → (vp_in ((nI 507) + z_25) 3372 ∧ ∀ ma_37 : Nat → Nat → Int32, ma_37 = mup ma 2 (((nI 507) + z_25)).toNatClampNeg x5 → (vp_in ((nI 527) + z_25) 3372 ∧ ∀ ma_39 : Nat → Nat → Int32, ma_39 = mup ma_37 2 (((nI 527) + z_25)).toNatClampNeg x6 → (vp_in (nI 506) 3372 ∧ (vp_in (nI 506) 3372 ∧ ∀ ma_42 : Nat → Nat → Int32, ma_42 = mup ma_39 2 ((nI 506)).toNatClampNeg ((ma_39 2 ((nI 506)).toNatClampNeg) + (nI 1)) → (post z_25 mi_3 ma_42 ml_35))))))) x3))) x1)) ∧ (z_25 = (nI 20) → (w_X6_no (fun (z_43 : Int32) (ma_44 : Nat → Nat → Int32) => (post z_43 mi_3 ma_44 ml)) (-4) mi_3 ma ml)))))) ∧ (z_19 = 0 → (w_X6_version_45 post x1 x3 x5 x6 mi_3 ma ml)))) ((x6).toInt64) (lN 0) (lN 9))))) ((x5).toInt64) (lN 0) (lN 9999))))) x3)))) x1))
theorem b_X6_version_45 {post : (Int32) → (Nat → Int32) → (Nat → Nat → Int32) → (Nat → Nat → Int64) → Prop}   {x1 : Int64} {x3 : Int64} {x5 : Int32} {x6 : Int32}  (hb : mOK b)   (mi : Nat → Int32) (ma : Nat → Nat → Int32) (ml : Nat → Nat → Int64) (hw : w_X6_version_45 post x1 x3 x5 x6 mi ma ml) : VV l E X cX6_version RX6 "version" 8 r_X6_version (some .int) (vpi (fun (r : Int32) (h' : AH) => ∃ (mi' : Nat → Int32) (ma' : Nat → Nat → Int32) (ml' : Nat → Nat → Int64), h' = (mH b mi' ma' ml') ∧ post r mi' ma' ml')) (mH b mi ma ml) 0 0 45 [(0, va_rf (some (b 0))), (1, .long x1), (3, .long x3), (5, .int x5), (6, .int x6)] [] := by
  refine v_aload_n (q := 0) dX6_version_45 rfl rfl ?_
  refine v_bipush dX6_version_46 bp_m3 ?_
  refine v_callV q1737 q1739 qs53 q113 q1740 (ci := 7) rfl (mH_obj hb) n_X6_no ⟨Nat.le_of_ble_eq_true rfl, Nat.le_of_ble_eq_true rfl⟩ [.int (-3)] [] (met_X6_no hb hw) rfl (Nat.zero_le _) ⟨Nat.le_refl _, Nat.le_refl _⟩ dX6_version_48 rfl (v_ki (fun z_1 h1 hv => ?_))
  clear hw
  obtain ⟨ma_2, rfl, hw⟩ := hv
  exact v_iret dX6_version_51 rfl ⟨_, rfl, _, _, _, rfl, hw⟩
theorem e_X6_version {post : (Int32) → (Nat → Int32) → (Nat → Nat → Int32) → (Nat → Nat → Int64) → Prop}   {x1 : Int64} {x3 : Int64} {x5 : Int32} {x6 : Int32} {mi : Nat → Int32} {ma : Nat → Nat → Int32} {ml : Nat → Nat → Int64} (hb : mOK b)  (hw : w_X6_version post  x1 x3 x5 x6 mi ma ml) : VV l E X cX6_version RX6 "version" 8 r_X6_version (some .int) (vpi (fun (r : Int32) (h' : AH) => ∃ (mi' : Nat → Int32) (ma' : Nat → Nat → Int32) (ml' : Nat → Nat → Int64), h' = (mH b mi' ma' ml') ∧ post r mi' ma' ml')) (mH b mi ma ml) 0 0 0 [(0, va_rf (some (b 0))), (1, .long x1), (3, .long x3), (5, .int x5), (6, .int x6)] [] := by
  refine v_aload_n (q := 0) dX6_version_0 rfl rfl ?_
  refine v_iconst dX6_version_1 ic_0 ?_
  obtain ⟨mi_3, emi_3⟩ : ∃ z9 : Nat → Int32, z9 = upd mi 0 (nI 0) := ⟨_, rfl⟩
  replace hw := hw mi_3 emi_3
  refine vm_put hb 0 (Nat.le_of_ble_eq_true rfl) q1614 rfl rfl rfl dX6_version_2 emi_3 rfl ?_
  refine v_lload_n (q := 1) dX6_version_5 rfl rfl ?_
  refine v_callS q1753 q1754 q113 q1755 n_X6_lengthOf ⟨Nat.le_of_ble_eq_true rfl, Nat.le_of_ble_eq_true rfl⟩ [.long x1] [] (met_X6_lengthOf hw) rfl (Nat.zero_le _) ⟨Nat.le_refl _, Nat.le_refl _⟩ dX6_version_6 rfl (v_ki (fun z_4 h1 hv => ?_))
  clear hw
  obtain ⟨e9, hw⟩ := hv
  refine v_heap e9 ?_
  clear e9
  obtain ⟨hw_7, hw_8⟩ := hw
  refine v_if_eq (tgt := 45) dX6_version_9 (by decide) (fun c_5 => ?_) (fun c_6 => ?_)
  · have hw := hw_7 c_5
    refine v_sub [0, 1, 2, 3, 4] rfl ?_
    exact b_X6_version_45 hb mi_3 ma ml hw
  · have hw := hw_8 c_6
    refine v_lload_n (q := 2) dX6_version_12 rfl rfl ?_
    refine v_callS q1753 q1754 q113 q1755 n_X6_lengthOf ⟨Nat.le_of_ble_eq_true rfl, Nat.le_of_ble_eq_true rfl⟩ [.long x3] [] (met_X6_lengthOf hw) rfl (Nat.zero_le _) ⟨Nat.le_refl _, Nat.le_refl _⟩ dX6_version_13 rfl (v_ki (fun z_9 h1 hv => ?_))
    clear hw
    obtain ⟨e9, hw⟩ := hv
    refine v_heap e9 ?_
    clear e9
    obtain ⟨hw_12, hw_13⟩ := hw
    refine v_if_eq (tgt := 45) dX6_version_16 (by decide) (fun c_10 => ?_) (fun c_11 => ?_)
    · have hw := hw_12 c_10
      refine v_sub [0, 1, 2, 3, 4] rfl ?_
      exact b_X6_version_45 hb mi_3 ma ml hw
    · have hw := hw_13 c_11
      refine v_iload (q := 3) dX6_version_19 rfl ?_
      refine v_i2l dX6_version_21 ?_
      refine v_lconst (v := lN 0) dX6_version_22 rfl ?_
      refine v_ldc2 (v := (lN 9999)) dX6_version_23 q1743 ?_
      refine v_callS q1734 q1735 q113 q1736 n_X6_within ⟨Nat.le_of_ble_eq_true rfl, Nat.le_of_ble_eq_true rfl⟩ [.long ((x5).toInt64), .long (lN 0), .long (lN 9999)] [] (met_X6_within hw) rfl (Nat.zero_le _) ⟨Nat.le_refl _, Nat.le_refl _⟩ dX6_version_26 rfl (v_ki (fun z_14 h1 hv => ?_))
      clear hw
      obtain ⟨e9, hw⟩ := hv
      refine v_heap e9 ?_
      clear e9
      obtain ⟨hw_17, hw_18⟩ := hw
      refine v_if_eq (tgt := 45) dX6_version_29 (by decide) (fun c_15 => ?_) (fun c_16 => ?_)
      · have hw := hw_17 c_15
        refine v_sub [0, 1, 2, 3, 4] rfl ?_
        exact b_X6_version_45 hb mi_3 ma ml hw
      · have hw := hw_18 c_16
        refine v_iload (q := 4) dX6_version_32 rfl ?_
        refine v_i2l dX6_version_34 ?_
        refine v_lconst (v := lN 0) dX6_version_35 rfl ?_
        refine v_ldc2 (v := (lN 9)) dX6_version_36 q1741 ?_
        refine v_callS q1734 q1735 q113 q1736 n_X6_within ⟨Nat.le_of_ble_eq_true rfl, Nat.le_of_ble_eq_true rfl⟩ [.long ((x6).toInt64), .long (lN 0), .long (lN 9)] [] (met_X6_within hw) rfl (Nat.zero_le _) ⟨Nat.le_refl _, Nat.le_refl _⟩ dX6_version_39 rfl (v_ki (fun z_19 h1 hv => ?_))
        clear hw
        obtain ⟨e9, hw⟩ := hv
        refine v_heap e9 ?_
        clear e9
        obtain ⟨hw_22, hw_23⟩ := hw
        refine v_if_ne (tgt := 52) dX6_version_42 (by decide) (fun c_20 => ?_) (fun c_21 => ?_)
        · have hw := hw_22 c_20
          refine v_aload_n (q := 0) dX6_version_52 rfl rfl ?_
          refine vm_get hb 2 (Nat.le_of_ble_eq_true rfl) q1616 rfl dX6_version_53 rfl ?_
          refine v_sipush dX6_version_56 sp_506 ?_
          obtain ⟨hi_24, hw⟩ := hw
          refine v_iald dX6_version_59 (mH_ar2 hb) hi_24 ?_
          refine v_topi (fun z_25 e_25 => ?_)
          replace hw := hw z_25 e_25
          refine v_istore (lv1 := [(7, .int z_25), (0, va_rf (some (b 0))), (1, .long x1), (3, .long x3), (5, .int x5), (6, .int x6)]) dX6_version_60 (Nat.le_of_ble_eq_true rfl) rfl ?_
          refine v_iload (q := 0) dX6_version_62 rfl ?_
          refine v_bipush dX6_version_64 bp_20 ?_
          obtain ⟨hw_28, hw_29⟩ := hw
          refine v_icmp_ne (tgt := 76) dX6_version_66 (by decide) (fun c_26 => ?_) (fun c_27 => ?_)
          · have hw := hw_28 c_26
            refine v_aload_n (q := 1) dX6_version_76 rfl rfl ?_
            refine vm_get hb 3 (Nat.le_of_ble_eq_true rfl) q1617 rfl dX6_version_77 rfl ?_
            refine v_sipush dX6_version_80 sp_684 ?_
            refine v_iload (q := 0) dX6_version_83 rfl ?_
            refine v_iadd dX6_version_85 ?_
            refine v_lload_n (q := 2) dX6_version_86 rfl rfl ?_
            refine v_callS q1759 q1760 q113 q1761 n_X6_plain ⟨Nat.le_of_ble_eq_true rfl, Nat.le_of_ble_eq_true rfl⟩ [.long x1] [.int ((nI 684) + z_25), va_rf (some (b 3))] (met_X6_plain hw) rfl (by simp only [List.map_cons, List.map_nil, List.sum_cons, List.sum_nil, v_rf1, v_cI, v_cJ]; decide) ⟨Nat.le_refl _, Nat.le_refl _⟩ dX6_version_87 rfl (v_kl (fun y_30 h1 hv => ?_))
            clear hw
            obtain ⟨e9, hw⟩ := hv
            refine v_heap e9 ?_
            clear e9
            obtain ⟨hi_31, hw⟩ := hw
            obtain ⟨ml_32, eml_32⟩ : ∃ z9 : Nat → Nat → Int64, z9 = mupL ml 3 (((nI 684) + z_25)).toNatClampNeg y_30 := ⟨_, rfl⟩
            replace hw := hw ml_32 eml_32
            refine v_last dX6_version_90 (mH_ar3 hb) hi_31 ?_
            refine v_heap (h' := mH b mi_3 ma ml_32) (by rw [eml_32]; exact mH_st3 hb) ?_
            refine v_aload_n (q := 1) dX6_version_91 rfl rfl ?_
            refine vm_get hb 3 (Nat.le_of_ble_eq_true rfl) q1617 rfl dX6_version_92 rfl ?_
            refine v_sipush dX6_version_95 sp_704 ?_
            refine v_iload (q := 0) dX6_version_98 rfl ?_
            refine v_iadd dX6_version_100 ?_
            refine v_lload_n (q := 3) dX6_version_101 rfl rfl ?_
            refine v_callS q1759 q1760 q113 q1761 n_X6_plain ⟨Nat.le_of_ble_eq_true rfl, Nat.le_of_ble_eq_true rfl⟩ [.long x3] [.int ((nI 704) + z_25), va_rf (some (b 3))] (met_X6_plain hw) rfl (by simp only [List.map_cons, List.map_nil, List.sum_cons, List.sum_nil, v_rf1, v_cI, v_cJ]; decide) ⟨Nat.le_refl _, Nat.le_refl _⟩ dX6_version_102 rfl (v_kl (fun y_33 h1 hv => ?_))
            clear hw
            obtain ⟨e9, hw⟩ := hv
            refine v_heap e9 ?_
            clear e9
            obtain ⟨hi_34, hw⟩ := hw
            obtain ⟨ml_35, eml_35⟩ : ∃ z9 : Nat → Nat → Int64, z9 = mupL ml_32 3 (((nI 704) + z_25)).toNatClampNeg y_33 := ⟨_, rfl⟩
            replace hw := hw ml_35 eml_35
            refine v_last dX6_version_105 (mH_ar3 hb) hi_34 ?_
            refine v_heap (h' := mH b mi_3 ma ml_35) (by rw [eml_35]; exact mH_st3 hb) ?_
            refine v_aload_n (q := 1) dX6_version_106 rfl rfl ?_
            refine vm_get hb 2 (Nat.le_of_ble_eq_true rfl) q1616 rfl dX6_version_107 rfl ?_
            refine v_sipush dX6_version_110 sp_507 ?_
            refine v_iload (q := 0) dX6_version_113 rfl ?_
            refine v_iadd dX6_version_115 ?_
            refine v_iload (q := 4) dX6_version_116 rfl ?_
            obtain ⟨hi_36, hw⟩ := hw
            obtain ⟨ma_37, ema_37⟩ : ∃ z9 : Nat → Nat → Int32, z9 = mup ma 2 (((nI 507) + z_25)).toNatClampNeg x5 := ⟨_, rfl⟩
            replace hw := hw ma_37 ema_37
            refine v_iast dX6_version_118 (mH_ar2 hb) hi_36 ?_
            refine v_heap (h' := mH b mi_3 ma_37 ml_35) (by rw [ema_37]; exact mH_st2 hb) ?_
            refine v_aload_n (q := 1) dX6_version_119 rfl rfl ?_
            refine vm_get hb 2 (Nat.le_of_ble_eq_true rfl) q1616 rfl dX6_version_120 rfl ?_
            refine v_sipush dX6_version_123 sp_527 ?_
            refine v_iload (q := 0) dX6_version_126 rfl ?_
            refine v_iadd dX6_version_128 ?_
            refine v_iload (q := 5) dX6_version_129 rfl ?_
            obtain ⟨hi_38, hw⟩ := hw
            obtain ⟨ma_39, ema_39⟩ : ∃ z9 : Nat → Nat → Int32, z9 = mup ma_37 2 (((nI 527) + z_25)).toNatClampNeg x6 := ⟨_, rfl⟩
            replace hw := hw ma_39 ema_39
            refine v_iast dX6_version_131 (mH_ar2 hb) hi_38 ?_
            refine v_heap (h' := mH b mi_3 ma_39 ml_35) (by rw [ema_39]; exact mH_st2 hb) ?_
            refine v_aload_n (q := 1) dX6_version_132 rfl rfl ?_
            refine vm_get hb 2 (Nat.le_of_ble_eq_true rfl) q1616 rfl dX6_version_133 rfl ?_
            refine v_sipush dX6_version_136 sp_506 ?_
            refine v_dup2 dX6_version_139 rfl (v_rf1 _) ?_
            obtain ⟨hi_40, hw⟩ := hw
            refine v_iald dX6_version_140 (mH_ar2 hb) hi_40 ?_
            refine v_iconst dX6_version_141 ic_1 ?_
            refine v_iadd dX6_version_142 ?_
            obtain ⟨hi_41, hw⟩ := hw
            obtain ⟨ma_42, ema_42⟩ : ∃ z9 : Nat → Nat → Int32, z9 = mup ma_39 2 ((nI 506)).toNatClampNeg ((ma_39 2 ((nI 506)).toNatClampNeg) + (nI 1)) := ⟨_, rfl⟩
            replace hw := hw ma_42 ema_42
            refine v_iast dX6_version_143 (mH_ar2 hb) hi_41 ?_
            refine v_heap (h' := mH b mi_3 ma_42 ml_35) (by rw [ema_42]; exact mH_st2 hb) ?_
            refine v_iload (q := 0) dX6_version_144 rfl ?_
            exact v_iret dX6_version_146 rfl ⟨_, rfl, _, _, _, rfl, hw⟩
          · have hw := hw_29 c_27
            refine v_aload_n (q := 1) dX6_version_69 rfl rfl ?_
            refine v_bipush dX6_version_70 bp_m4 ?_
            refine v_callV q1737 q1739 qs53 q113 q1740 (ci := 7) rfl (mH_obj hb) n_X6_no ⟨Nat.le_of_ble_eq_true rfl, Nat.le_of_ble_eq_true rfl⟩ [.int (-4)] [] (met_X6_no hb hw) rfl (Nat.zero_le _) ⟨Nat.le_refl _, Nat.le_refl _⟩ dX6_version_72 rfl (v_ki (fun z_43 h1 hv => ?_))
            clear hw
            obtain ⟨ma_44, rfl, hw⟩ := hv
            exact v_iret dX6_version_75 rfl ⟨_, rfl, _, _, _, rfl, hw⟩
        · have hw := hw_23 c_21
          refine v_sub [0, 1, 2, 3, 4] rfl ?_
          exact b_X6_version_45 hb mi_3 ma ml hw
theorem met_X6_version {post : (Int32) → (Nat → Int32) → (Nat → Nat → Int32) → (Nat → Nat → Int64) → Prop}   {x1 : Int64} {x3 : Int64} {x5 : Int32} {x6 : Int32} {mi : Nat → Int32} {ma : Nat → Nat → Int32} {ml : Nat → Nat → Int64} (hb : mOK b)  (hw : w_X6_version post  x1 x3 x5 x6 mi ma ml) : Mt l E yX6_version (ws_ yX6_version cX6_version 8 (some .int)) r_X6_version [va_rf (some (b 0)), .long x1, .long x3, .int x5, .int x6] (mH b mi ma ml) (vpi (fun (r : Int32) (h' : AH) => ∃ (mi' : Nat → Int32) (ma' : Nat → Nat → Int32) (ml' : Nat → Nat → Int64), h' = (mH b mi' ma' ml') ∧ post r mi' ma' ml')) := v_entry (by decide +kernel) (Nat.le_of_ble_eq_true rfl) rfl (fun _ => e_X6_version hb hw)
/-! X6_which -/
abbrev r_X6_which : Room := { frames := 4, cells := 0, slots := 0, locals := 104 }
theorem n_X6_which : vdn yX6_which 1 := ⟨by decide +kernel, by decide +kernel, by decide +kernel⟩
def w_X6_which_58 (post : (Int32) → (Nat → Int32) → (Nat → Nat → Int32) → Prop) (x1 : Int32) (ml : Nat → Nat → Int64) : Nat → (Int64) → (Int64) → (Int32) → (Nat → Int32) → (Nat → Nat → Int32) → Prop
 | 0, _, _, _, _, _ => False
 | n0 + 1, x2, x4, x6, mi, ma =>
 (w_X6_lengthOf (fun (z_1 : Int32) => ((z_1 ≤ x6 → (vp_in ((nI 527) + x1) 3372 ∧ (w_X6_smooth (fun (y_7 : Int64) (mi_8 : Nat → Int32) (ma_9 : Nat → Nat → Int32) => ((¬ (lg_cmp y_7 x4) = 0 → (vp_in ((nI 527) + x1) 3372 ∧ (w_X6_smooth (fun (y_15 : Int64) (mi_16 : Nat → Int32) (ma_17 : Nat → Nat → Int32) => ((¬ (lg_cmp y_15 x2) = 0 → (post (nI 2) mi_16 ma_17)) ∧ ((lg_cmp y_15 x2) = 0 → (post (nI 1) mi_16 ma_17)))) x4 (ma_9 2 (((nI 527) + x1)).toNatClampNeg) mi_8 ma_9 ml))) ∧ ((lg_cmp y_7 x4) = 0 → (post (nI 0) mi_8 ma_9)))) x2 (ma 2 (((nI 527) + x1)).toNatClampNeg) mi ma ml))) ∧ (¬ z_1 ≤ x6 → (w_X6_wordAt (fun (z_22 : Int32) => (vp_in ((nI 250) + z_22) 3372 ∧ (vp_in ((nI 507) + x1) 3372 ∧ (((ma 2 (((nI 250) + z_22)).toNatClampNeg) ≤ (ma 2 (((nI 507) + x1)).toNatClampNeg) → (∀ z_29 : Int32, z_29 = x6 + (nI 1) → (w_X6_which_58 post x1 ml n0 x2 x4 z_29 mi ma))) ∧ (¬ (ma 2 (((nI 250) + z_22)).toNatClampNeg) ≤ (ma 2 (((nI 507) + x1)).toNatClampNeg) → (post (nI 1) mi ma)))))) x2 x6)))) x2)
def w_X6_which (post : (Int32) → (Nat → Int32) → (Nat → Nat → Int32) → Prop) (x1 : Int32) (mi : Nat → Int32) (ma : Nat → Nat → Int32) (ml : Nat → Nat → Int64) : Prop :=
 (∀ mi_30 : Nat → Int32, mi_30 = upd mi 0 (nI 0) → (vp_in (nI 506) 3372 ∧ (w_X6_within (fun (z_32 : Int32) => ((¬ z_32 = 0 → (vp_in ((nI 684) + x1) 2352 ∧ (∀ y_38 : Int64, y_38 = (ml 3 (((nI 684) + x1)).toNatClampNeg) → (vp_in ((nI 704) + x1) 2352 ∧ (∀ y_40 : Int64, y_40 = (ml 3 (((nI 704) + x1)).toNatClampNeg) → (∃ n1 : Nat, (w_X6_which_58 post x1 ml n1 y_38 y_40 (nI 0) mi_30 ma))))))) ∧ (z_32 = 0 → (w_X6_no (fun (z_42 : Int32) (ma_43 : Nat → Nat → Int32) => (post z_42 mi_30 ma_43)) (-2) mi_30 ma ml)))) ((x1).toInt64) (lN 0) ((((ma 2 ((nI 506)).toNatClampNeg) - (nI 1))).toInt64))))
theorem b_X6_which_58 {post : (Int32) → (Nat → Int32) → (Nat → Nat → Int32) → Prop}   {x1 : Int32} {ml : Nat → Nat → Int64}  (hb : mOK b)   : ∀ (n0 : Nat) (x2 : Int64) (x4 : Int64) (x6 : Int32) (mi : Nat → Int32) (ma : Nat → Nat → Int32), w_X6_which_58 post x1 ml n0 x2 x4 x6 mi ma → VV l E X cX6_which RX6 "which" 7 r_X6_which (some .int) (vpi (fun (r : Int32) (h' : AH) => ∃ (mi' : Nat → Int32) (ma' : Nat → Nat → Int32), h' = (mH b mi' ma' ml) ∧ post r mi' ma')) (mH b mi ma ml) 0 0 58 [(0, va_rf (some (b 0))), (1, .int x1), (2, .long x2), (4, .long x4), (6, .int x6)] [] := by
  intro n0
  induction n0 with
  | zero =>
    intro x2 x4 x6 mi ma hw
    exact hw.elim
  | succ n0 ih =>
    intro x2 x4 x6 mi ma hw
    refine v_iload (q := 4) dX6_which_58 rfl ?_
    refine v_lload_n (q := 2) dX6_which_60 rfl rfl ?_
    refine v_callS q1753 q1754 q113 q1755 n_X6_lengthOf ⟨Nat.le_of_ble_eq_true rfl, Nat.le_of_ble_eq_true rfl⟩ [.long x2] [.int x6] (met_X6_lengthOf hw) rfl (Nat.le_of_ble_eq_true rfl) ⟨Nat.le_refl _, Nat.le_refl _⟩ dX6_which_61 rfl (v_ki (fun z_1 h1 hv => ?_))
    clear hw
    obtain ⟨e9, hw⟩ := hv
    refine v_heap e9 ?_
    clear e9
    obtain ⟨hw_4, hw_5⟩ := hw
    refine v_icmp_ge (tgt := 103) dX6_which_64 (by decide) (fun c_2 => ?_) (fun c_3 => ?_)
    · have hw := hw_4 c_2
      refine v_aload_n (q := 0) dX6_which_103 rfl rfl ?_
      refine v_lload_n (q := 2) dX6_which_104 rfl rfl ?_
      refine v_aload_n (q := 0) dX6_which_105 rfl rfl ?_
      refine vm_get hb 2 (Nat.le_of_ble_eq_true rfl) q1616 rfl dX6_which_106 rfl ?_
      refine v_sipush dX6_which_109 sp_527 ?_
      refine v_iload_n (q := 1) dX6_which_112 rfl rfl ?_
      refine v_iadd dX6_which_113 ?_
      obtain ⟨hi_6, hw⟩ := hw
      refine v_iald dX6_which_114 (mH_ar2 hb) hi_6 ?_
      refine v_callV q1874 q1876 qs72 q113 q1877 (ci := 7) rfl (mH_obj hb) n_X6_smooth ⟨Nat.le_of_ble_eq_true rfl, Nat.le_of_ble_eq_true rfl⟩ [.long x2, .int (ma 2 (((nI 527) + x1)).toNatClampNeg)] [] (met_X6_smooth hb hw) rfl (Nat.zero_le _) ⟨Nat.le_refl _, Nat.le_refl _⟩ dX6_which_115 rfl (v_kl (fun y_7 h1 hv => ?_))
      clear hw
      obtain ⟨mi_8, ma_9, rfl, hw⟩ := hv
      refine v_lload (q := 3) dX6_which_118 rfl ?_
      refine v_lcmp dX6_which_120 ?_
      obtain ⟨hw_12, hw_13⟩ := hw
      refine v_if_ne (tgt := 126) dX6_which_121 (by decide) (fun c_10 => ?_) (fun c_11 => ?_)
      · have hw := hw_12 c_10
        refine v_aload_n (q := 0) dX6_which_126 rfl rfl ?_
        refine v_lload (q := 3) dX6_which_127 rfl ?_
        refine v_aload_n (q := 0) dX6_which_129 rfl rfl ?_
        refine vm_get hb 2 (Nat.le_of_ble_eq_true rfl) q1616 rfl dX6_which_130 rfl ?_
        refine v_sipush dX6_which_133 sp_527 ?_
        refine v_iload_n (q := 1) dX6_which_136 rfl rfl ?_
        refine v_iadd dX6_which_137 ?_
        obtain ⟨hi_14, hw⟩ := hw
        refine v_iald dX6_which_138 (mH_ar2 hb) hi_14 ?_
        refine v_callV q1874 q1876 qs72 q113 q1877 (ci := 7) rfl (mH_obj hb) n_X6_smooth ⟨Nat.le_of_ble_eq_true rfl, Nat.le_of_ble_eq_true rfl⟩ [.long x4, .int (ma_9 2 (((nI 527) + x1)).toNatClampNeg)] [] (met_X6_smooth hb hw) rfl (Nat.zero_le _) ⟨Nat.le_refl _, Nat.le_refl _⟩ dX6_which_139 rfl (v_kl (fun y_15 h1 hv => ?_))
        clear hw
        obtain ⟨mi_16, ma_17, rfl, hw⟩ := hv
        refine v_lload_n (q := 2) dX6_which_142 rfl rfl ?_
        refine v_lcmp dX6_which_143 ?_
        obtain ⟨hw_20, hw_21⟩ := hw
        refine v_if_ne (tgt := 151) dX6_which_144 (by decide) (fun c_18 => ?_) (fun c_19 => ?_)
        · have hw := hw_20 c_18
          refine v_iconst dX6_which_151 ic_2 ?_
          exact v_iret dX6_which_152 rfl ⟨_, rfl, _, _, rfl, hw⟩
        · have hw := hw_21 c_19
          refine v_iconst dX6_which_147 ic_1 ?_
          refine v_goto (tgt := 152) dX6_which_148 (by decide) ?_
          exact v_iret dX6_which_152 rfl ⟨_, rfl, _, _, rfl, hw⟩
      · have hw := hw_13 c_11
        refine v_iconst dX6_which_124 ic_0 ?_
        exact v_iret dX6_which_125 rfl ⟨_, rfl, _, _, rfl, hw⟩
    · have hw := hw_5 c_3
      refine v_aload_n (q := 0) dX6_which_67 rfl rfl ?_
      refine vm_get hb 2 (Nat.le_of_ble_eq_true rfl) q1616 rfl dX6_which_68 rfl ?_
      refine v_sipush dX6_which_71 sp_250 ?_
      refine v_lload_n (q := 2) dX6_which_74 rfl rfl ?_
      refine v_iload (q := 4) dX6_which_75 rfl ?_
      refine v_callS q1756 q1757 q113 q1758 n_X6_wordAt ⟨Nat.le_of_ble_eq_true rfl, Nat.le_of_ble_eq_true rfl⟩ [.long x2, .int x6] [.int (nI 250), va_rf (some (b 2))] (met_X6_wordAt hw) rfl (by simp only [List.map_cons, List.map_nil, List.sum_cons, List.sum_nil, v_rf1, v_cI, v_cJ]; decide) ⟨Nat.le_refl _, Nat.le_refl _⟩ dX6_which_77 rfl (v_ki (fun z_22 h1 hv => ?_))
      clear hw
      obtain ⟨e9, hw⟩ := hv
      refine v_heap e9 ?_
      clear e9
      refine v_iadd dX6_which_80 ?_
      obtain ⟨hi_23, hw⟩ := hw
      refine v_iald dX6_which_81 (mH_ar2 hb) hi_23 ?_
      refine v_aload_n (q := 0) dX6_which_82 rfl rfl ?_
      refine vm_get hb 2 (Nat.le_of_ble_eq_true rfl) q1616 rfl dX6_which_83 rfl ?_
      refine v_sipush dX6_which_86 sp_507 ?_
      refine v_iload_n (q := 1) dX6_which_89 rfl rfl ?_
      refine v_iadd dX6_which_90 ?_
      obtain ⟨hi_24, hw⟩ := hw
      refine v_iald dX6_which_91 (mH_ar2 hb) hi_24 ?_
      obtain ⟨hw_27, hw_28⟩ := hw
      refine v_icmp_le (tgt := 97) dX6_which_92 (by decide) (fun c_25 => ?_) (fun c_26 => ?_)
      · have hw := hw_27 c_25
        obtain ⟨z_29, e_29⟩ : ∃ z9 : Int32, z9 = x6 + (nI 1) := ⟨_, rfl⟩
        replace hw := hw z_29 e_29
        refine v_iinc (q := 4) (v := z_29) (lv1 := [(6, .int z_29), (0, va_rf (some (b 0))), (1, .int x1), (2, .long x2), (4, .long x4)]) dX6_which_97 rfl (by rw [e_29, ic_1]) (Nat.le_of_ble_eq_true rfl) rfl ?_
        refine v_goto (tgt := 58) dX6_which_100 (by decide) ?_
        refine v_sub [1, 2, 3, 4, 0] rfl ?_
        exact ih x2 x4 z_29 mi ma hw
      · have hw := hw_28 c_26
        refine v_iconst dX6_which_95 ic_1 ?_
        exact v_iret dX6_which_96 rfl ⟨_, rfl, _, _, rfl, hw⟩
theorem e_X6_which {post : (Int32) → (Nat → Int32) → (Nat → Nat → Int32) → Prop}   {x1 : Int32} {mi : Nat → Int32} {ma : Nat → Nat → Int32} {ml : Nat → Nat → Int64} (hb : mOK b)  (hw : w_X6_which post  x1 mi ma ml) : VV l E X cX6_which RX6 "which" 7 r_X6_which (some .int) (vpi (fun (r : Int32) (h' : AH) => ∃ (mi' : Nat → Int32) (ma' : Nat → Nat → Int32), h' = (mH b mi' ma' ml) ∧ post r mi' ma')) (mH b mi ma ml) 0 0 0 [(0, va_rf (some (b 0))), (1, .int x1)] [] := by
  refine v_aload_n (q := 0) dX6_which_0 rfl rfl ?_
  refine v_iconst dX6_which_1 ic_0 ?_
  obtain ⟨mi_30, emi_30⟩ : ∃ z9 : Nat → Int32, z9 = upd mi 0 (nI 0) := ⟨_, rfl⟩
  replace hw := hw mi_30 emi_30
  refine vm_put hb 0 (Nat.le_of_ble_eq_true rfl) q1614 rfl rfl rfl dX6_which_2 emi_30 rfl ?_
  refine v_iload_n (q := 1) dX6_which_5 rfl rfl ?_
  refine v_i2l dX6_which_6 ?_
  refine v_lconst (v := lN 0) dX6_which_7 rfl ?_
  refine v_aload_n (q := 0) dX6_which_8 rfl rfl ?_
  refine vm_get hb 2 (Nat.le_of_ble_eq_true rfl) q1616 rfl dX6_which_9 rfl ?_
  refine v_sipush dX6_which_12 sp_506 ?_
  obtain ⟨hi_31, hw⟩ := hw
  refine v_iald dX6_which_15 (mH_ar2 hb) hi_31 ?_
  refine v_iconst dX6_which_16 ic_1 ?_
  refine v_isub dX6_which_17 ?_
  refine v_i2l dX6_which_18 ?_
  refine v_callS q1734 q1735 q113 q1736 n_X6_within ⟨Nat.le_of_ble_eq_true rfl, Nat.le_of_ble_eq_true rfl⟩ [.long ((x1).toInt64), .long (lN 0), .long ((((ma 2 ((nI 506)).toNatClampNeg) - (nI 1))).toInt64)] [] (met_X6_within hw) rfl (Nat.zero_le _) ⟨Nat.le_refl _, Nat.le_refl _⟩ dX6_which_19 rfl (v_ki (fun z_32 h1 hv => ?_))
  clear hw
  obtain ⟨e9, hw⟩ := hv
  refine v_heap e9 ?_
  clear e9
  obtain ⟨hw_35, hw_36⟩ := hw
  refine v_if_ne (tgt := 32) dX6_which_22 (by decide) (fun c_33 => ?_) (fun c_34 => ?_)
  · have hw := hw_35 c_33
    refine v_aload_n (q := 0) dX6_which_32 rfl rfl ?_
    refine vm_get hb 3 (Nat.le_of_ble_eq_true rfl) q1617 rfl dX6_which_33 rfl ?_
    refine v_sipush dX6_which_36 sp_684 ?_
    refine v_iload_n (q := 1) dX6_which_39 rfl rfl ?_
    refine v_iadd dX6_which_40 ?_
    obtain ⟨hi_37, hw⟩ := hw
    refine v_lald dX6_which_41 (mH_ar3 hb) hi_37 ?_
    refine v_topl (fun y_38 e_38 => ?_)
    replace hw := hw y_38 e_38
    refine v_lstore_n (lv1 := [(2, .long y_38), (0, va_rf (some (b 0))), (1, .int x1)]) dX6_which_42 rfl (Nat.le_of_ble_eq_true rfl) rfl ?_
    refine v_aload_n (q := 1) dX6_which_43 rfl rfl ?_
    refine vm_get hb 3 (Nat.le_of_ble_eq_true rfl) q1617 rfl dX6_which_44 rfl ?_
    refine v_sipush dX6_which_47 sp_704 ?_
    refine v_iload_n (q := 2) dX6_which_50 rfl rfl ?_
    refine v_iadd dX6_which_51 ?_
    obtain ⟨hi_39, hw⟩ := hw
    refine v_lald dX6_which_52 (mH_ar3 hb) hi_39 ?_
    refine v_topl (fun y_40 e_40 => ?_)
    replace hw := hw y_40 e_40
    refine v_lstore (lv1 := [(4, .long y_40), (2, .long y_38), (0, va_rf (some (b 0))), (1, .int x1)]) dX6_which_53 (Nat.le_of_ble_eq_true rfl) rfl ?_
    refine v_iconst dX6_which_55 ic_0 ?_
    refine v_istore (lv1 := [(6, .int (nI 0)), (4, .long y_40), (2, .long y_38), (0, va_rf (some (b 0))), (1, .int x1)]) dX6_which_56 (Nat.le_of_ble_eq_true rfl) rfl ?_
    obtain ⟨n_41, hw⟩ := hw
    refine v_sub [3, 4, 2, 1, 0] rfl ?_
    exact b_X6_which_58 hb n_41 y_38 y_40 (nI 0) mi_30 ma hw
  · have hw := hw_36 c_34
    refine v_aload_n (q := 0) dX6_which_25 rfl rfl ?_
    refine v_bipush dX6_which_26 bp_m2 ?_
    refine v_callV q1737 q1739 qs53 q113 q1740 (ci := 7) rfl (mH_obj hb) n_X6_no ⟨Nat.le_of_ble_eq_true rfl, Nat.le_of_ble_eq_true rfl⟩ [.int (-2)] [] (met_X6_no hb hw) rfl (Nat.zero_le _) ⟨Nat.le_refl _, Nat.le_refl _⟩ dX6_which_28 rfl (v_ki (fun z_42 h1 hv => ?_))
    clear hw
    obtain ⟨ma_43, rfl, hw⟩ := hv
    exact v_iret dX6_which_31 rfl ⟨_, rfl, _, _, rfl, hw⟩
theorem met_X6_which {post : (Int32) → (Nat → Int32) → (Nat → Nat → Int32) → Prop}   {x1 : Int32} {mi : Nat → Int32} {ma : Nat → Nat → Int32} {ml : Nat → Nat → Int64} (hb : mOK b)  (hw : w_X6_which post  x1 mi ma ml) : Mt l E yX6_which (ws_ yX6_which cX6_which 7 (some .int)) r_X6_which [va_rf (some (b 0)), .int x1] (mH b mi ma ml) (vpi (fun (r : Int32) (h' : AH) => ∃ (mi' : Nat → Int32) (ma' : Nat → Nat → Int32), h' = (mH b mi' ma' ml) ∧ post r mi' ma')) := v_entry (by decide +kernel) (Nat.le_of_ble_eq_true rfl) rfl (fun _ => e_X6_which hb hw)
/-! X6_isAnswer -/
abbrev r_X6_isAnswer : Room := { frames := 1, cells := 0, slots := 0, locals := 25 }
theorem n_X6_isAnswer : vdn yX6_isAnswer 5 := ⟨by decide +kernel, by decide +kernel, by decide +kernel⟩
def w_X6_isAnswer (post : (Int32) → Prop) (x0 : Int64) (x2 : Int64) (x4 : Int64) (x6 : Int64) (x8 : Int64) : Prop :=
 (w_X6_within (fun (z_1 : Int32) => ((z_1 = 0 → (post (nI 0))) ∧ (¬ z_1 = 0 → (w_X6_within (fun (z_6 : Int32) => ((z_6 = 0 → (post (nI 0))) ∧ (¬ z_6 = 0 → (w_X6_within (fun (z_11 : Int32) => ((z_11 = 0 → (post (nI 0))) ∧ (¬ z_11 = 0 → (w_X6_within (fun (z_16 : Int32) => ((z_16 = 0 → (post (nI 0))) ∧ (¬ z_16 = 0 → (w_X6_within (fun (z_21 : Int32) => ((z_21 = 0 → (post (nI 0))) ∧ (¬ z_21 = 0 → (post (nI 1))))) x8 (lN 0) (lN 2))))) x6 (lN 0) (lN 2))))) x4 (lN 0) (lN 9))))) x2 (lN 0) (lN 9999))))) x0 (lN 0) (lN 15))
theorem e_X6_isAnswer {post : (Int32) → Prop}   {x0 : Int64} {x2 : Int64} {x4 : Int64} {x6 : Int64} {x8 : Int64} {h : AH}  (hw : w_X6_isAnswer post  x0 x2 x4 x6 x8) : VV l E X cX6_isAnswer RX6 "isAnswer" 10 r_X6_isAnswer (some .boolean) (vpi (fun (r : Int32) (h' : AH) => h' = h ∧ post r)) h 0 0 0 [(0, .long x0), (2, .long x2), (4, .long x4), (6, .long x6), (8, .long x8)] [] := by
  refine v_lload_n (q := 0) dX6_isAnswer_0 rfl rfl ?_
  refine v_lconst (v := lN 0) dX6_isAnswer_1 rfl ?_
  refine v_ldc2 (v := (lN 15)) dX6_isAnswer_2 q1742 ?_
  refine v_callS q1734 q1735 q113 q1736 n_X6_within ⟨Nat.le_of_ble_eq_true rfl, Nat.le_of_ble_eq_true rfl⟩ [.long x0, .long (lN 0), .long (lN 15)] [] (met_X6_within hw) rfl (Nat.zero_le _) ⟨Nat.le_refl _, Nat.le_refl _⟩ dX6_isAnswer_5 rfl (v_ki (fun z_1 h1 hv => ?_))
  clear hw
  obtain ⟨e9, hw⟩ := hv
  refine v_heap e9 ?_
  clear e9
  obtain ⟨hw_4, hw_5⟩ := hw
  refine v_if_eq (tgt := 62) dX6_isAnswer_8 (by decide) (fun c_2 => ?_) (fun c_3 => ?_)
  · have hw := hw_4 c_2
    refine v_iconst dX6_isAnswer_62 ic_0 ?_
    exact v_zret dX6_isAnswer_63 rfl rfl ⟨_, rfl, rfl, hw⟩
  · have hw := hw_5 c_3
    refine v_lload_n (q := 1) dX6_isAnswer_11 rfl rfl ?_
    refine v_lconst (v := lN 0) dX6_isAnswer_12 rfl ?_
    refine v_ldc2 (v := (lN 9999)) dX6_isAnswer_13 q1743 ?_
    refine v_callS q1734 q1735 q113 q1736 n_X6_within ⟨Nat.le_of_ble_eq_true rfl, Nat.le_of_ble_eq_true rfl⟩ [.long x2, .long (lN 0), .long (lN 9999)] [] (met_X6_within hw) rfl (Nat.zero_le _) ⟨Nat.le_refl _, Nat.le_refl _⟩ dX6_isAnswer_16 rfl (v_ki (fun z_6 h1 hv => ?_))
    clear hw
    obtain ⟨e9, hw⟩ := hv
    refine v_heap e9 ?_
    clear e9
    obtain ⟨hw_9, hw_10⟩ := hw
    refine v_if_eq (tgt := 62) dX6_isAnswer_19 (by decide) (fun c_7 => ?_) (fun c_8 => ?_)
    · have hw := hw_9 c_7
      refine v_iconst dX6_isAnswer_62 ic_0 ?_
      exact v_zret dX6_isAnswer_63 rfl rfl ⟨_, rfl, rfl, hw⟩
    · have hw := hw_10 c_8
      refine v_lload (q := 2) dX6_isAnswer_22 rfl ?_
      refine v_lconst (v := lN 0) dX6_isAnswer_24 rfl ?_
      refine v_ldc2 (v := (lN 9)) dX6_isAnswer_25 q1741 ?_
      refine v_callS q1734 q1735 q113 q1736 n_X6_within ⟨Nat.le_of_ble_eq_true rfl, Nat.le_of_ble_eq_true rfl⟩ [.long x4, .long (lN 0), .long (lN 9)] [] (met_X6_within hw) rfl (Nat.zero_le _) ⟨Nat.le_refl _, Nat.le_refl _⟩ dX6_isAnswer_28 rfl (v_ki (fun z_11 h1 hv => ?_))
      clear hw
      obtain ⟨e9, hw⟩ := hv
      refine v_heap e9 ?_
      clear e9
      obtain ⟨hw_14, hw_15⟩ := hw
      refine v_if_eq (tgt := 62) dX6_isAnswer_31 (by decide) (fun c_12 => ?_) (fun c_13 => ?_)
      · have hw := hw_14 c_12
        refine v_iconst dX6_isAnswer_62 ic_0 ?_
        exact v_zret dX6_isAnswer_63 rfl rfl ⟨_, rfl, rfl, hw⟩
      · have hw := hw_15 c_13
        refine v_lload (q := 3) dX6_isAnswer_34 rfl ?_
        refine v_lconst (v := lN 0) dX6_isAnswer_36 rfl ?_
        refine v_ldc2 (v := (lN 2)) dX6_isAnswer_37 q1985 ?_
        refine v_callS q1734 q1735 q113 q1736 n_X6_within ⟨Nat.le_of_ble_eq_true rfl, Nat.le_of_ble_eq_true rfl⟩ [.long x6, .long (lN 0), .long (lN 2)] [] (met_X6_within hw) rfl (Nat.zero_le _) ⟨Nat.le_refl _, Nat.le_refl _⟩ dX6_isAnswer_40 rfl (v_ki (fun z_16 h1 hv => ?_))
        clear hw
        obtain ⟨e9, hw⟩ := hv
        refine v_heap e9 ?_
        clear e9
        obtain ⟨hw_19, hw_20⟩ := hw
        refine v_if_eq (tgt := 62) dX6_isAnswer_43 (by decide) (fun c_17 => ?_) (fun c_18 => ?_)
        · have hw := hw_19 c_17
          refine v_iconst dX6_isAnswer_62 ic_0 ?_
          exact v_zret dX6_isAnswer_63 rfl rfl ⟨_, rfl, rfl, hw⟩
        · have hw := hw_20 c_18
          refine v_lload (q := 4) dX6_isAnswer_46 rfl ?_
          refine v_lconst (v := lN 0) dX6_isAnswer_48 rfl ?_
          refine v_ldc2 (v := (lN 2)) dX6_isAnswer_49 q1985 ?_
          refine v_callS q1734 q1735 q113 q1736 n_X6_within ⟨Nat.le_of_ble_eq_true rfl, Nat.le_of_ble_eq_true rfl⟩ [.long x8, .long (lN 0), .long (lN 2)] [] (met_X6_within hw) rfl (Nat.zero_le _) ⟨Nat.le_refl _, Nat.le_refl _⟩ dX6_isAnswer_52 rfl (v_ki (fun z_21 h1 hv => ?_))
          clear hw
          obtain ⟨e9, hw⟩ := hv
          refine v_heap e9 ?_
          clear e9
          obtain ⟨hw_24, hw_25⟩ := hw
          refine v_if_eq (tgt := 62) dX6_isAnswer_55 (by decide) (fun c_22 => ?_) (fun c_23 => ?_)
          · have hw := hw_24 c_22
            refine v_iconst dX6_isAnswer_62 ic_0 ?_
            exact v_zret dX6_isAnswer_63 rfl rfl ⟨_, rfl, rfl, hw⟩
          · have hw := hw_25 c_23
            refine v_iconst dX6_isAnswer_58 ic_1 ?_
            refine v_goto (tgt := 63) dX6_isAnswer_59 (by decide) ?_
            exact v_zret dX6_isAnswer_63 rfl rfl ⟨_, rfl, rfl, hw⟩
theorem met_X6_isAnswer {post : (Int32) → Prop}   {x0 : Int64} {x2 : Int64} {x4 : Int64} {x6 : Int64} {x8 : Int64} {h : AH}  (hw : w_X6_isAnswer post  x0 x2 x4 x6 x8) : Mt l E yX6_isAnswer (ws_ yX6_isAnswer cX6_isAnswer 10 (some .boolean)) r_X6_isAnswer [.long x0, .long x2, .long x4, .long x6, .long x8] h (vpi (fun (r : Int32) (h' : AH) => h' = h ∧ post r)) := v_entry (by decide +kernel) (Nat.le_of_ble_eq_true rfl) rfl (fun _ => e_X6_isAnswer hw)
/-! X6_answers -/
abbrev r_X6_answers : Room := { frames := 3, cells := 0, slots := 0, locals := 69 }
theorem n_X6_answers : vdn yX6_answers 6 := ⟨by decide +kernel, by decide +kernel, by decide +kernel⟩
def w_X6_answers (post : (Nat → Nat → Int32) → (Nat → Nat → Int64) → Prop) (x1 : Int32) (x2 : Int32) (x3 : Int32) (x4 : Int32) (x5 : Int32) (x6 : Int64) (mi : Nat → Int32) (ma : Nat → Nat → Int32) (ml : Nat → Nat → Int64) : Prop :=
 (vp_in (nI 547) 3372 ∧ (∀ z_2 : Int32, z_2 = (ma 2 ((nI 547)).toNatClampNeg) → (vp_in ((nI 548) + z_2) 3372 ∧ ∀ ma_4 : Nat → Nat → Int32, ma_4 = mup ma 2 (((nI 548) + z_2)).toNatClampNeg x1 → (vp_in ((nI 608) + z_2) 3372 ∧ ∀ ma_6 : Nat → Nat → Int32, ma_6 = mup ma_4 2 (((nI 608) + z_2)).toNatClampNeg x2 → (vp_in ((nI 668) + z_2) 3372 ∧ ∀ ma_8 : Nat → Nat → Int32, ma_8 = mup ma_6 2 (((nI 668) + z_2)).toNatClampNeg x3 → (vp_in ((nI 728) + z_2) 3372 ∧ ∀ ma_10 : Nat → Nat → Int32, ma_10 = mup ma_8 2 (((nI 728) + z_2)).toNatClampNeg x4 → (vp_in ((nI 788) + z_2) 3372 ∧ ∀ ma_12 : Nat → Nat → Int32, ma_12 = mup ma_10 2 (((nI 788) + z_2)).toNatClampNeg x5 → (w_X6_plain (fun (y_13 : Int64) => (vp_in ((nI 724) + z_2) 2352 ∧ ∀ ml_15 : Nat → Nat → Int64, ml_15 = mupL ml 3 (((nI 724) + z_2)).toNatClampNeg y_13 → (vp_in (nI 547) 3372 ∧ (vp_in (nI 547) 3372 ∧ ∀ ma_18 : Nat → Nat → Int32, ma_18 = mup ma_12 2 ((nI 547)).toNatClampNeg ((ma_12 2 ((nI 547)).toNatClampNeg) + (nI 1)) → (post ma_18 ml_15))))) x6))))))))
theorem e_X6_answers {post : (Nat → Nat → Int32) → (Nat → Nat → Int64) → Prop}   {x1 : Int32} {x2 : Int32} {x3 : Int32} {x4 : Int32} {x5 : Int32} {x6 : Int64} {mi : Nat → Int32} {ma : Nat → Nat → Int32} {ml : Nat → Nat → Int64} (hb : mOK b)  (hw : w_X6_answers post  x1 x2 x3 x4 x5 x6 mi ma ml) : VV l E X cX6_answers RX6 "answers" 9 r_X6_answers none (vpv (fun (h' : AH) => ∃ (ma' : Nat → Nat → Int32) (ml' : Nat → Nat → Int64), h' = (mH b mi ma' ml') ∧ post ma' ml')) (mH b mi ma ml) 0 0 0 [(0, va_rf (some (b 0))), (1, .int x1), (2, .int x2), (3, .int x3), (4, .int x4), (5, .int x5), (6, .long x6)] [] := by
  refine v_aload_n (q := 0) dX6_answers_0 rfl rfl ?_
  refine vm_get hb 2 (Nat.le_of_ble_eq_true rfl) q1616 rfl dX6_answers_1 rfl ?_
  refine v_sipush dX6_answers_4 sp_547 ?_
  obtain ⟨hi_1, hw⟩ := hw
  refine v_iald dX6_answers_7 (mH_ar2 hb) hi_1 ?_
  refine v_topi (fun z_2 e_2 => ?_)
  replace hw := hw z_2 e_2
  refine v_istore (lv1 := [(8, .int z_2), (0, va_rf (some (b 0))), (1, .int x1), (2, .int x2), (3, .int x3), (4, .int x4), (5, .int x5), (6, .long x6)]) dX6_answers_8 (Nat.le_of_ble_eq_true rfl) rfl ?_
  refine v_aload_n (q := 1) dX6_answers_10 rfl rfl ?_
  refine vm_get hb 2 (Nat.le_of_ble_eq_true rfl) q1616 rfl dX6_answers_11 rfl ?_
  refine v_sipush dX6_answers_14 sp_548 ?_
  refine v_iload (q := 0) dX6_answers_17 rfl ?_
  refine v_iadd dX6_answers_19 ?_
  refine v_iload_n (q := 2) dX6_answers_20 rfl rfl ?_
  obtain ⟨hi_3, hw⟩ := hw
  obtain ⟨ma_4, ema_4⟩ : ∃ z9 : Nat → Nat → Int32, z9 = mup ma 2 (((nI 548) + z_2)).toNatClampNeg x1 := ⟨_, rfl⟩
  replace hw := hw ma_4 ema_4
  refine v_iast dX6_answers_21 (mH_ar2 hb) hi_3 ?_
  refine v_heap (h' := mH b mi ma_4 ml) (by rw [ema_4]; exact mH_st2 hb) ?_
  refine v_aload_n (q := 1) dX6_answers_22 rfl rfl ?_
  refine vm_get hb 2 (Nat.le_of_ble_eq_true rfl) q1616 rfl dX6_answers_23 rfl ?_
  refine v_sipush dX6_answers_26 sp_608 ?_
  refine v_iload (q := 0) dX6_answers_29 rfl ?_
  refine v_iadd dX6_answers_31 ?_
  refine v_iload_n (q := 3) dX6_answers_32 rfl rfl ?_
  obtain ⟨hi_5, hw⟩ := hw
  obtain ⟨ma_6, ema_6⟩ : ∃ z9 : Nat → Nat → Int32, z9 = mup ma_4 2 (((nI 608) + z_2)).toNatClampNeg x2 := ⟨_, rfl⟩
  replace hw := hw ma_6 ema_6
  refine v_iast dX6_answers_33 (mH_ar2 hb) hi_5 ?_
  refine v_heap (h' := mH b mi ma_6 ml) (by rw [ema_6]; exact mH_st2 hb) ?_
  refine v_aload_n (q := 1) dX6_answers_34 rfl rfl ?_
  refine vm_get hb 2 (Nat.le_of_ble_eq_true rfl) q1616 rfl dX6_answers_35 rfl ?_
  refine v_sipush dX6_answers_38 sp_668 ?_
  refine v_iload (q := 0) dX6_answers_41 rfl ?_
  refine v_iadd dX6_answers_43 ?_
  refine v_iload_n (q := 4) dX6_answers_44 rfl rfl ?_
  obtain ⟨hi_7, hw⟩ := hw
  obtain ⟨ma_8, ema_8⟩ : ∃ z9 : Nat → Nat → Int32, z9 = mup ma_6 2 (((nI 668) + z_2)).toNatClampNeg x3 := ⟨_, rfl⟩
  replace hw := hw ma_8 ema_8
  refine v_iast dX6_answers_45 (mH_ar2 hb) hi_7 ?_
  refine v_heap (h' := mH b mi ma_8 ml) (by rw [ema_8]; exact mH_st2 hb) ?_
  refine v_aload_n (q := 1) dX6_answers_46 rfl rfl ?_
  refine vm_get hb 2 (Nat.le_of_ble_eq_true rfl) q1616 rfl dX6_answers_47 rfl ?_
  refine v_sipush dX6_answers_50 sp_728 ?_
  refine v_iload (q := 0) dX6_answers_53 rfl ?_
  refine v_iadd dX6_answers_55 ?_
  refine v_iload (q := 5) dX6_answers_56 rfl ?_
  obtain ⟨hi_9, hw⟩ := hw
  obtain ⟨ma_10, ema_10⟩ : ∃ z9 : Nat → Nat → Int32, z9 = mup ma_8 2 (((nI 728) + z_2)).toNatClampNeg x4 := ⟨_, rfl⟩
  replace hw := hw ma_10 ema_10
  refine v_iast dX6_answers_58 (mH_ar2 hb) hi_9 ?_
  refine v_heap (h' := mH b mi ma_10 ml) (by rw [ema_10]; exact mH_st2 hb) ?_
  refine v_aload_n (q := 1) dX6_answers_59 rfl rfl ?_
  refine vm_get hb 2 (Nat.le_of_ble_eq_true rfl) q1616 rfl dX6_answers_60 rfl ?_
  refine v_sipush dX6_answers_63 sp_788 ?_
  refine v_iload (q := 0) dX6_answers_66 rfl ?_
  refine v_iadd dX6_answers_68 ?_
  refine v_iload (q := 6) dX6_answers_69 rfl ?_
  obtain ⟨hi_11, hw⟩ := hw
  obtain ⟨ma_12, ema_12⟩ : ∃ z9 : Nat → Nat → Int32, z9 = mup ma_10 2 (((nI 788) + z_2)).toNatClampNeg x5 := ⟨_, rfl⟩
  replace hw := hw ma_12 ema_12
  refine v_iast dX6_answers_71 (mH_ar2 hb) hi_11 ?_
  refine v_heap (h' := mH b mi ma_12 ml) (by rw [ema_12]; exact mH_st2 hb) ?_
  refine v_aload_n (q := 1) dX6_answers_72 rfl rfl ?_
  refine vm_get hb 3 (Nat.le_of_ble_eq_true rfl) q1617 rfl dX6_answers_73 rfl ?_
  refine v_sipush dX6_answers_76 sp_724 ?_
  refine v_iload (q := 0) dX6_answers_79 rfl ?_
  refine v_iadd dX6_answers_81 ?_
  refine v_lload (q := 7) dX6_answers_82 rfl ?_
  refine v_callS q1759 q1760 q113 q1761 n_X6_plain ⟨Nat.le_of_ble_eq_true rfl, Nat.le_of_ble_eq_true rfl⟩ [.long x6] [.int ((nI 724) + z_2), va_rf (some (b 3))] (met_X6_plain hw) rfl (by simp only [List.map_cons, List.map_nil, List.sum_cons, List.sum_nil, v_rf1, v_cI, v_cJ]; decide) ⟨Nat.le_refl _, Nat.le_refl _⟩ dX6_answers_84 rfl (v_kl (fun y_13 h1 hv => ?_))
  clear hw
  obtain ⟨e9, hw⟩ := hv
  refine v_heap e9 ?_
  clear e9
  obtain ⟨hi_14, hw⟩ := hw
  obtain ⟨ml_15, eml_15⟩ : ∃ z9 : Nat → Nat → Int64, z9 = mupL ml 3 (((nI 724) + z_2)).toNatClampNeg y_13 := ⟨_, rfl⟩
  replace hw := hw ml_15 eml_15
  refine v_last dX6_answers_87 (mH_ar3 hb) hi_14 ?_
  refine v_heap (h' := mH b mi ma_12 ml_15) (by rw [eml_15]; exact mH_st3 hb) ?_
  refine v_aload_n (q := 1) dX6_answers_88 rfl rfl ?_
  refine vm_get hb 2 (Nat.le_of_ble_eq_true rfl) q1616 rfl dX6_answers_89 rfl ?_
  refine v_sipush dX6_answers_92 sp_547 ?_
  refine v_dup2 dX6_answers_95 rfl (v_rf1 _) ?_
  obtain ⟨hi_16, hw⟩ := hw
  refine v_iald dX6_answers_96 (mH_ar2 hb) hi_16 ?_
  refine v_iconst dX6_answers_97 ic_1 ?_
  refine v_iadd dX6_answers_98 ?_
  obtain ⟨hi_17, hw⟩ := hw
  obtain ⟨ma_18, ema_18⟩ : ∃ z9 : Nat → Nat → Int32, z9 = mup ma_12 2 ((nI 547)).toNatClampNeg ((ma_12 2 ((nI 547)).toNatClampNeg) + (nI 1)) := ⟨_, rfl⟩
  replace hw := hw ma_18 ema_18
  refine v_iast dX6_answers_99 (mH_ar2 hb) hi_17 ?_
  refine v_heap (h' := mH b mi ma_18 ml_15) (by rw [ema_18]; exact mH_st2 hb) ?_
  exact v_vret dX6_answers_100 rfl ⟨rfl, _, _, rfl, hw⟩
theorem met_X6_answers {post : (Nat → Nat → Int32) → (Nat → Nat → Int64) → Prop}   {x1 : Int32} {x2 : Int32} {x3 : Int32} {x4 : Int32} {x5 : Int32} {x6 : Int64} {mi : Nat → Int32} {ma : Nat → Nat → Int32} {ml : Nat → Nat → Int64} (hb : mOK b)  (hw : w_X6_answers post  x1 x2 x3 x4 x5 x6 mi ma ml) : Mt l E yX6_answers (ws_ yX6_answers cX6_answers 9 none) r_X6_answers [va_rf (some (b 0)), .int x1, .int x2, .int x3, .int x4, .int x5, .long x6] (mH b mi ma ml) (vpv (fun (h' : AH) => ∃ (ma' : Nat → Nat → Int32) (ml' : Nat → Nat → Int64), h' = (mH b mi ma' ml') ∧ post ma' ml')) := v_entry (by decide +kernel) (Nat.le_of_ble_eq_true rfl) rfl (fun _ => e_X6_answers hb hw)
/-! X6_answer -/
abbrev r_X6_answer : Room := { frames := 4, cells := 0, slots := 0, locals := 97 }
theorem n_X6_answer : vdn yX6_answer 6 := ⟨by decide +kernel, by decide +kernel, by decide +kernel⟩
def w_X6_answer_38 (post : (Int32) → (Nat → Int32) → (Nat → Nat → Int32) → (Nat → Nat → Int64) → Prop) (x1 : Int32) (x2 : Int32) (x3 : Int32) (x4 : Int32) (x5 : Int32) (x6 : Int64) (mi : Nat → Int32) (ma : Nat → Nat → Int32) (ml : Nat → Nat → Int64) : Prop :=
 (w_X6_no (fun (z_1 : Int32) (ma_2 : Nat → Nat → Int32) => (post z_1 mi ma_2 ml)) (-3) mi ma ml)
def w_X6_answer_45 (post : (Int32) → (Nat → Int32) → (Nat → Nat → Int32) → (Nat → Nat → Int64) → Prop) (x1 : Int32) (x2 : Int32) (x3 : Int32) (x4 : Int32) (x5 : Int32) (x6 : Int64) (mi : Nat → Int32) (ma : Nat → Nat → Int32) (ml : Nat → Nat → Int64) : Prop :=
 (vp_in (nI 547) 3372 ∧ ((¬ (ma 2 ((nI 547)).toNatClampNeg) = (nI 60) → (w_X6_answers (fun (ma_8 : Nat → Nat → Int32) (ml_9 : Nat → Nat → Int64) => (vp_in (nI 547) 3372 ∧ (post ((ma_8 2 ((nI 547)).toNatClampNeg) - (nI 1)) mi ma_8 ml_9))) x1 x2 x3 x4 x5 x6 mi ma ml)) ∧ ((ma 2 ((nI 547)).toNatClampNeg) = (nI 60) → (w_X6_no (fun (z_11 : Int32) (ma_12 : Nat → Nat → Int32) => (post z_11 mi ma_12 ml)) (-4) mi ma ml))))
def w_X6_answer (post : (Int32) → (Nat → Int32) → (Nat → Nat → Int32) → (Nat → Nat → Int64) → Prop) (x1 : Int32) (x2 : Int32) (x3 : Int32) (x4 : Int32) (x5 : Int32) (x6 : Int64) (mi : Nat → Int32) (ma : Nat → Nat → Int32) (ml : Nat → Nat → Int64) : Prop :=
 (∀ mi_13 : Nat → Int32, mi_13 = upd mi 0 (nI 0) → (w_X6_isAnswer (fun (z_14 : Int32) => ((z_14 = 0 → (w_X6_answer_38 post x1 x2 x3 x4 x5 x6 mi_13 ma ml)) ∧ (¬ z_14 = 0 → (((lg_cmp x6 (lN 0)) = 0 → (w_X6_answer_45 post x1 x2 x3 x4 x5 x6 mi_13 ma ml)) ∧ (¬ (lg_cmp x6 (lN 0)) = 0 → (w_X6_lengthOf (fun (z_23 : Int32) => ((¬ z_23 = 0 → (w_X6_answer_45 post x1 x2 x3 x4 x5 x6 mi_13 ma ml)) ∧ (z_23 = 0 → (w_X6_answer_38 post x1 x2 x3 x4 x5 x6 mi_13 ma ml)))) x6)))))) ((x1).toInt64) ((x2).toInt64) ((x3).toInt64) ((x4).toInt64) ((x5).toInt64)))
theorem b_X6_answer_38 {post : (Int32) → (Nat → Int32) → (Nat → Nat → Int32) → (Nat → Nat → Int64) → Prop}   {x1 : Int32} {x2 : Int32} {x3 : Int32} {x4 : Int32} {x5 : Int32} {x6 : Int64}  (hb : mOK b)   (mi : Nat → Int32) (ma : Nat → Nat → Int32) (ml : Nat → Nat → Int64) (hw : w_X6_answer_38 post x1 x2 x3 x4 x5 x6 mi ma ml) : VV l E X cX6_answer RX6 "answer" 8 r_X6_answer (some .int) (vpi (fun (r : Int32) (h' : AH) => ∃ (mi' : Nat → Int32) (ma' : Nat → Nat → Int32) (ml' : Nat → Nat → Int64), h' = (mH b mi' ma' ml') ∧ post r mi' ma' ml')) (mH b mi ma ml) 0 0 38 [(0, va_rf (some (b 0))), (1, .int x1), (2, .int x2), (3, .int x3), (4, .int x4), (5, .int x5), (6, .long x6)] [] := by
  refine v_aload_n (q := 0) dX6_answer_38 rfl rfl ?_
  refine v_bipush dX6_answer_39 bp_m3 ?_
  refine v_callV q1737 q1739 qs53 q113 q1740 (ci := 7) rfl (mH_obj hb) n_X6_no ⟨Nat.le_of_ble_eq_true rfl, Nat.le_of_ble_eq_true rfl⟩ [.int (-3)] [] (met_X6_no hb hw) rfl (Nat.zero_le _) ⟨Nat.le_refl _, Nat.le_refl _⟩ dX6_answer_41 rfl (v_ki (fun z_1 h1 hv => ?_))
  clear hw
  obtain ⟨ma_2, rfl, hw⟩ := hv
  exact v_iret dX6_answer_44 rfl ⟨_, rfl, _, _, _, rfl, hw⟩
theorem b_X6_answer_45 {post : (Int32) → (Nat → Int32) → (Nat → Nat → Int32) → (Nat → Nat → Int64) → Prop}   {x1 : Int32} {x2 : Int32} {x3 : Int32} {x4 : Int32} {x5 : Int32} {x6 : Int64}  (hb : mOK b)   (mi : Nat → Int32) (ma : Nat → Nat → Int32) (ml : Nat → Nat → Int64) (hw : w_X6_answer_45 post x1 x2 x3 x4 x5 x6 mi ma ml) : VV l E X cX6_answer RX6 "answer" 8 r_X6_answer (some .int) (vpi (fun (r : Int32) (h' : AH) => ∃ (mi' : Nat → Int32) (ma' : Nat → Nat → Int32) (ml' : Nat → Nat → Int64), h' = (mH b mi' ma' ml') ∧ post r mi' ma' ml')) (mH b mi ma ml) 0 0 45 [(0, va_rf (some (b 0))), (1, .int x1), (2, .int x2), (3, .int x3), (4, .int x4), (5, .int x5), (6, .long x6)] [] := by
  refine v_aload_n (q := 0) dX6_answer_45 rfl rfl ?_
  refine vm_get hb 2 (Nat.le_of_ble_eq_true rfl) q1616 rfl dX6_answer_46 rfl ?_
  refine v_sipush dX6_answer_49 sp_547 ?_
  obtain ⟨hi_3, hw⟩ := hw
  refine v_iald dX6_answer_52 (mH_ar2 hb) hi_3 ?_
  refine v_bipush dX6_answer_53 bp_60 ?_
  obtain ⟨hw_6, hw_7⟩ := hw
  refine v_icmp_ne (tgt := 65) dX6_answer_55 (by decide) (fun c_4 => ?_) (fun c_5 => ?_)
  · have hw := hw_6 c_4
    refine v_aload_n (q := 0) dX6_answer_65 rfl rfl ?_
    refine v_iload_n (q := 1) dX6_answer_66 rfl rfl ?_
    refine v_iload_n (q := 2) dX6_answer_67 rfl rfl ?_
    refine v_iload_n (q := 3) dX6_answer_68 rfl rfl ?_
    refine v_iload (q := 4) dX6_answer_69 rfl ?_
    refine v_iload (q := 5) dX6_answer_71 rfl ?_
    refine v_lload (q := 6) dX6_answer_73 rfl ?_
    refine v_callV q2018 q2020 qs90 q113 q2021 (ci := 7) rfl (mH_obj hb) n_X6_answers ⟨Nat.le_of_ble_eq_true rfl, Nat.le_of_ble_eq_true rfl⟩ [.int x1, .int x2, .int x3, .int x4, .int x5, .long x6] [] (met_X6_answers hb hw) rfl (Nat.zero_le _) ⟨Nat.le_refl _, Nat.le_refl _⟩ dX6_answer_75 rfl (v_kv (fun h1 hv => ?_))
    clear hw
    obtain ⟨ma_8, ml_9, rfl, hw⟩ := hv
    refine v_aload_n (q := 0) dX6_answer_78 rfl rfl ?_
    refine vm_get hb 2 (Nat.le_of_ble_eq_true rfl) q1616 rfl dX6_answer_79 rfl ?_
    refine v_sipush dX6_answer_82 sp_547 ?_
    obtain ⟨hi_10, hw⟩ := hw
    refine v_iald dX6_answer_85 (mH_ar2 hb) hi_10 ?_
    refine v_iconst dX6_answer_86 ic_1 ?_
    refine v_isub dX6_answer_87 ?_
    exact v_iret dX6_answer_88 rfl ⟨_, rfl, _, _, _, rfl, hw⟩
  · have hw := hw_7 c_5
    refine v_aload_n (q := 0) dX6_answer_58 rfl rfl ?_
    refine v_bipush dX6_answer_59 bp_m4 ?_
    refine v_callV q1737 q1739 qs53 q113 q1740 (ci := 7) rfl (mH_obj hb) n_X6_no ⟨Nat.le_of_ble_eq_true rfl, Nat.le_of_ble_eq_true rfl⟩ [.int (-4)] [] (met_X6_no hb hw) rfl (Nat.zero_le _) ⟨Nat.le_refl _, Nat.le_refl _⟩ dX6_answer_61 rfl (v_ki (fun z_11 h1 hv => ?_))
    clear hw
    obtain ⟨ma_12, rfl, hw⟩ := hv
    exact v_iret dX6_answer_64 rfl ⟨_, rfl, _, _, _, rfl, hw⟩
theorem e_X6_answer {post : (Int32) → (Nat → Int32) → (Nat → Nat → Int32) → (Nat → Nat → Int64) → Prop}   {x1 : Int32} {x2 : Int32} {x3 : Int32} {x4 : Int32} {x5 : Int32} {x6 : Int64} {mi : Nat → Int32} {ma : Nat → Nat → Int32} {ml : Nat → Nat → Int64} (hb : mOK b)  (hw : w_X6_answer post  x1 x2 x3 x4 x5 x6 mi ma ml) : VV l E X cX6_answer RX6 "answer" 8 r_X6_answer (some .int) (vpi (fun (r : Int32) (h' : AH) => ∃ (mi' : Nat → Int32) (ma' : Nat → Nat → Int32) (ml' : Nat → Nat → Int64), h' = (mH b mi' ma' ml') ∧ post r mi' ma' ml')) (mH b mi ma ml) 0 0 0 [(0, va_rf (some (b 0))), (1, .int x1), (2, .int x2), (3, .int x3), (4, .int x4), (5, .int x5), (6, .long x6)] [] := by
  refine v_aload_n (q := 0) dX6_answer_0 rfl rfl ?_
  refine v_iconst dX6_answer_1 ic_0 ?_
  obtain ⟨mi_13, emi_13⟩ : ∃ z9 : Nat → Int32, z9 = upd mi 0 (nI 0) := ⟨_, rfl⟩
  replace hw := hw mi_13 emi_13
  refine vm_put hb 0 (Nat.le_of_ble_eq_true rfl) q1614 rfl rfl rfl dX6_answer_2 emi_13 rfl ?_
  refine v_iload_n (q := 1) dX6_answer_5 rfl rfl ?_
  refine v_i2l dX6_answer_6 ?_
  refine v_iload_n (q := 2) dX6_answer_7 rfl rfl ?_
  refine v_i2l dX6_answer_8 ?_
  refine v_iload_n (q := 3) dX6_answer_9 rfl rfl ?_
  refine v_i2l dX6_answer_10 ?_
  refine v_iload (q := 4) dX6_answer_11 rfl ?_
  refine v_i2l dX6_answer_13 ?_
  refine v_iload (q := 5) dX6_answer_14 rfl ?_
  refine v_i2l dX6_answer_16 ?_
  refine v_callS q2015 q2016 q113 q2017 n_X6_isAnswer ⟨Nat.le_of_ble_eq_true rfl, Nat.le_of_ble_eq_true rfl⟩ [.long ((x1).toInt64), .long ((x2).toInt64), .long ((x3).toInt64), .long ((x4).toInt64), .long ((x5).toInt64)] [] (met_X6_isAnswer hw) rfl (Nat.zero_le _) ⟨Nat.le_refl _, Nat.le_refl _⟩ dX6_answer_17 rfl (v_ki (fun z_14 h1 hv => ?_))
  clear hw
  obtain ⟨e9, hw⟩ := hv
  refine v_heap e9 ?_
  clear e9
  obtain ⟨hw_17, hw_18⟩ := hw
  refine v_if_eq (tgt := 38) dX6_answer_20 (by decide) (fun c_15 => ?_) (fun c_16 => ?_)
  · have hw := hw_17 c_15
    refine v_sub [0, 1, 2, 3, 4, 5, 6] rfl ?_
    exact b_X6_answer_38 hb mi_13 ma ml hw
  · have hw := hw_18 c_16
    refine v_lload (q := 6) dX6_answer_23 rfl ?_
    refine v_lconst (v := lN 0) dX6_answer_25 rfl ?_
    refine v_lcmp dX6_answer_26 ?_
    obtain ⟨hw_21, hw_22⟩ := hw
    refine v_if_eq (tgt := 45) dX6_answer_27 (by decide) (fun c_19 => ?_) (fun c_20 => ?_)
    · have hw := hw_21 c_19
      refine v_sub [0, 1, 2, 3, 4, 5, 6] rfl ?_
      exact b_X6_answer_45 hb mi_13 ma ml hw
    · have hw := hw_22 c_20
      refine v_lload (q := 6) dX6_answer_30 rfl ?_
      refine v_callS q1753 q1754 q113 q1755 n_X6_lengthOf ⟨Nat.le_of_ble_eq_true rfl, Nat.le_of_ble_eq_true rfl⟩ [.long x6] [] (met_X6_lengthOf hw) rfl (Nat.zero_le _) ⟨Nat.le_refl _, Nat.le_refl _⟩ dX6_answer_32 rfl (v_ki (fun z_23 h1 hv => ?_))
      clear hw
      obtain ⟨e9, hw⟩ := hv
      refine v_heap e9 ?_
      clear e9
      obtain ⟨hw_26, hw_27⟩ := hw
      refine v_if_ne (tgt := 45) dX6_answer_35 (by decide) (fun c_24 => ?_) (fun c_25 => ?_)
      · have hw := hw_26 c_24
        refine v_sub [0, 1, 2, 3, 4, 5, 6] rfl ?_
        exact b_X6_answer_45 hb mi_13 ma ml hw
      · have hw := hw_27 c_25
        refine v_sub [0, 1, 2, 3, 4, 5, 6] rfl ?_
        exact b_X6_answer_38 hb mi_13 ma ml hw
theorem met_X6_answer {post : (Int32) → (Nat → Int32) → (Nat → Nat → Int32) → (Nat → Nat → Int64) → Prop}   {x1 : Int32} {x2 : Int32} {x3 : Int32} {x4 : Int32} {x5 : Int32} {x6 : Int64} {mi : Nat → Int32} {ma : Nat → Nat → Int32} {ml : Nat → Nat → Int64} (hb : mOK b)  (hw : w_X6_answer post  x1 x2 x3 x4 x5 x6 mi ma ml) : Mt l E yX6_answer (ws_ yX6_answer cX6_answer 8 (some .int)) r_X6_answer [va_rf (some (b 0)), .int x1, .int x2, .int x3, .int x4, .int x5, .long x6] (mH b mi ma ml) (vpi (fun (r : Int32) (h' : AH) => ∃ (mi' : Nat → Int32) (ma' : Nat → Nat → Int32) (ml' : Nat → Nat → Int64), h' = (mH b mi' ma' ml') ∧ post r mi' ma' ml')) := v_entry (by decide +kernel) (Nat.le_of_ble_eq_true rfl) rfl (fun _ => e_X6_answer hb hw)
end WALK
