set_option maxRecDepth 100000
section WALK
variable {l : Launch} {E : VE} {X : VX} {b : Nat → Nat}
/-! X6_rate -/
abbrev r_X6_rate : Room := { frames := 3, cells := 0, slots := 0, locals := 71 }
theorem n_X6_rate : vdn yX6_rate 0 := ⟨by decide +kernel, by decide +kernel, by decide +kernel⟩
def w_X6_rate_99 (post : (Int32) → (Nat → Int32) → (Nat → Nat → Int32) → Prop) (k27 : (Int32) → (Int32) → (Nat → Int32) → (Nat → Nat → Int32) → Prop) (ml : Nat → Nat → Int64) (x2 : Int32) (s0 : Int32) (mi : Nat → Int32) (ma : Nat → Nat → Int32) : Prop :=
 (∀ z_1 : Int32, z_1 = x2 + (nI 1) → (k27 s0 z_1 mi ma))
def w_X6_rate_27 (post : (Int32) → (Nat → Int32) → (Nat → Nat → Int32) → Prop) (ml : Nat → Nat → Int64) : Nat → (Int32) → (Int32) → (Nat → Int32) → (Nat → Nat → Int32) → Prop
 | 0, _, _, _, _ => False
 | n0 + 1, x1, x2, mi, ma =>
 (vp_in (nI 889) 3372 ∧ (((ma 2 ((nI 889)).toNatClampNeg) ≤ x2 → ((x1 ≤ (nI 99) → (post x1 mi ma)) ∧ (¬ x1 ≤ (nI 99) → (post (-1) mi ma)))) ∧ (¬ (ma 2 ((nI 889)).toNatClampNeg) ≤ x2 → (vp_in ((nI 890) + x2) 3372 ∧ (w_X6_freeUpTo (fun (z_12 : Int32) => (vp_in ((nI 890) + x2) 3372 ∧ (w_X6_pagesIn (fun (z_14 : Int32) => ((¬ z_12 = 0 → (¬ z_12 = 0 ∧ (∀ z_20 : Int32, z_20 = (((z_14 + z_12) - (nI 1)) / z_12) → ((z_20 ≤ x1 → (w_X6_rate_99 post (fun (q0 : Int32) (q1 : Int32) (q2 : Nat → Int32) (q3 : Nat → Nat → Int32) => w_X6_rate_27 post ml n0 q0 q1 q2 q3) ml x2 x1 mi ma)) ∧ (¬ z_20 ≤ x1 → (w_X6_rate_99 post (fun (q0 : Int32) (q1 : Int32) (q2 : Nat → Int32) (q3 : Nat → Nat → Int32) => w_X6_rate_27 post ml n0 q0 q1 q2 q3) ml x2 z_20 mi ma)))))) ∧ (z_12 = 0 → (post (-1) mi ma)))) (nI 0) (ma 2 (((nI 890) + x2)).toNatClampNeg) mi ma ml))) (ma 2 (((nI 890) + x2)).toNatClampNeg) mi ma ml)))))
def w_X6_rate (post : (Int32) → (Nat → Int32) → (Nat → Nat → Int32) → Prop) (mi : Nat → Int32) (ma : Nat → Nat → Int32) (ml : Nat → Nat → Int64) : Prop :=
 (∀ mi_25 : Nat → Int32, mi_25 = upd mi 0 (nI 0) → (vp_in (nI 889) 3372 ∧ ((¬ (ma 2 ((nI 889)).toNatClampNeg) = 0 → (∃ n1 : Nat, (w_X6_rate_27 post ml n1 (nI 1) (nI 0) mi_25 ma))) ∧ ((ma 2 ((nI 889)).toNatClampNeg) = 0 → (w_X6_no (fun (z_32 : Int32) (ma_33 : Nat → Nat → Int32) => (post z_32 mi_25 ma_33)) (-5) mi_25 ma ml)))))
theorem b_X6_rate_99 {post : (Int32) → (Nat → Int32) → (Nat → Nat → Int32) → Prop}   {ml : Nat → Nat → Int64} {k27 : (Int32) → (Int32) → (Nat → Int32) → (Nat → Nat → Int32) → Prop} (hb : mOK b)  (hk27 : ∀ (x1 : Int32) (x2 : Int32) (mi : Nat → Int32) (ma : Nat → Nat → Int32), k27 x1 x2 mi ma → VV l E X cX6_rate RX6 "rate" 6 r_X6_rate (some .int) (vpi (fun (r : Int32) (h' : AH) => ∃ (mi' : Nat → Int32) (ma' : Nat → Nat → Int32), h' = (mH b mi' ma' ml) ∧ post r mi' ma')) (mH b mi ma ml) 0 0 27 [(0, va_rf (some (b 0))), (1, .int x1), (2, .int x2)] []) (x2 : Int32) (s0 : Int32) (mi : Nat → Int32) (ma : Nat → Nat → Int32) (hw : w_X6_rate_99 post k27 ml x2 s0 mi ma) : VV l E X cX6_rate RX6 "rate" 6 r_X6_rate (some .int) (vpi (fun (r : Int32) (h' : AH) => ∃ (mi' : Nat → Int32) (ma' : Nat → Nat → Int32), h' = (mH b mi' ma' ml) ∧ post r mi' ma')) (mH b mi ma ml) 0 0 99 [(0, va_rf (some (b 0))), (2, .int x2)] [.int s0] := by
  refine v_istore_n (lv1 := [(1, .int s0), (0, va_rf (some (b 0))), (2, .int x2)]) dX6_rate_99 rfl (Nat.le_of_ble_eq_true rfl) rfl ?_
  obtain ⟨z_1, e_1⟩ : ∃ z9 : Int32, z9 = x2 + (nI 1) := ⟨_, rfl⟩
  replace hw := hw z_1 e_1
  refine v_iinc (q := 2) (v := z_1) (lv1 := [(2, .int z_1), (1, .int s0), (0, va_rf (some (b 0)))]) dX6_rate_100 rfl (by rw [e_1, ic_1]) (Nat.le_of_ble_eq_true rfl) rfl ?_
  refine v_goto (tgt := 27) dX6_rate_103 (by decide) ?_
  refine v_sub [2, 1, 0] rfl ?_
  exact hk27 s0 z_1 mi ma hw
theorem b_X6_rate_27 {post : (Int32) → (Nat → Int32) → (Nat → Nat → Int32) → Prop}   {ml : Nat → Nat → Int64}  (hb : mOK b)   : ∀ (n0 : Nat) (x1 : Int32) (x2 : Int32) (mi : Nat → Int32) (ma : Nat → Nat → Int32), w_X6_rate_27 post ml n0 x1 x2 mi ma → VV l E X cX6_rate RX6 "rate" 6 r_X6_rate (some .int) (vpi (fun (r : Int32) (h' : AH) => ∃ (mi' : Nat → Int32) (ma' : Nat → Nat → Int32), h' = (mH b mi' ma' ml) ∧ post r mi' ma')) (mH b mi ma ml) 0 0 27 [(0, va_rf (some (b 0))), (1, .int x1), (2, .int x2)] [] := by
  intro n0
  induction n0 with
  | zero =>
    intro x1 x2 mi ma hw
    exact hw.elim
  | succ n0 ih =>
    intro x1 x2 mi ma hw
    refine v_iload_n (q := 2) dX6_rate_27 rfl rfl ?_
    refine v_aload_n (q := 0) dX6_rate_28 rfl rfl ?_
    refine vm_get hb 2 (Nat.le_of_ble_eq_true rfl) q1616 rfl dX6_rate_29 rfl ?_
    refine v_sipush dX6_rate_32 sp_889 ?_
    obtain ⟨hi_2, hw⟩ := hw
    refine v_iald dX6_rate_35 (mH_ar2 hb) hi_2 ?_
    obtain ⟨hw_5, hw_6⟩ := hw
    refine v_icmp_ge (tgt := 106) dX6_rate_36 (by decide) (fun c_3 => ?_) (fun c_4 => ?_)
    · have hw := hw_5 c_3
      refine v_iload_n (q := 1) dX6_rate_106 rfl rfl ?_
      refine v_bipush dX6_rate_107 bp_99 ?_
      obtain ⟨hw_9, hw_10⟩ := hw
      refine v_icmp_le (tgt := 116) dX6_rate_109 (by decide) (fun c_7 => ?_) (fun c_8 => ?_)
      · have hw := hw_9 c_7
        refine v_iload_n (q := 1) dX6_rate_116 rfl rfl ?_
        exact v_iret dX6_rate_117 rfl ⟨_, rfl, _, _, rfl, hw⟩
      · have hw := hw_10 c_8
        refine v_iconst dX6_rate_112 ic_m1 ?_
        refine v_goto (tgt := 117) dX6_rate_113 (by decide) ?_
        exact v_iret dX6_rate_117 rfl ⟨_, rfl, _, _, rfl, hw⟩
    · have hw := hw_6 c_4
      refine v_aload_n (q := 0) dX6_rate_39 rfl rfl ?_
      refine v_aload_n (q := 0) dX6_rate_40 rfl rfl ?_
      refine vm_get hb 2 (Nat.le_of_ble_eq_true rfl) q1616 rfl dX6_rate_41 rfl ?_
      refine v_sipush dX6_rate_44 sp_890 ?_
      refine v_iload_n (q := 2) dX6_rate_47 rfl rfl ?_
      refine v_iadd dX6_rate_48 ?_
      obtain ⟨hi_11, hw⟩ := hw
      refine v_iald dX6_rate_49 (mH_ar2 hb) hi_11 ?_
      refine v_callV q2086 q2088 qs96 q113 q2089 (ci := 7) rfl (mH_obj hb) n_X6_freeUpTo ⟨Nat.le_of_ble_eq_true rfl, Nat.le_of_ble_eq_true rfl⟩ [.int (ma 2 (((nI 890) + x2)).toNatClampNeg)] [] (met_X6_freeUpTo hb hw) rfl (Nat.zero_le _) ⟨Nat.le_refl _, Nat.le_refl _⟩ dX6_rate_50 rfl (v_ki (fun z_12 h1 hv => ?_))
      clear hw
      obtain ⟨e9, hw⟩ := hv
      refine v_heap e9 ?_
      clear e9
      refine v_istore_n (lv1 := [(3, .int z_12), (0, va_rf (some (b 0))), (1, .int x1), (2, .int x2)]) dX6_rate_53 rfl (Nat.le_of_ble_eq_true rfl) rfl ?_
      refine v_aload_n (q := 1) dX6_rate_54 rfl rfl ?_
      refine v_iconst dX6_rate_55 ic_0 ?_
      refine v_aload_n (q := 1) dX6_rate_56 rfl rfl ?_
      refine vm_get hb 2 (Nat.le_of_ble_eq_true rfl) q1616 rfl dX6_rate_57 rfl ?_
      refine v_sipush dX6_rate_60 sp_890 ?_
      refine v_iload_n (q := 3) dX6_rate_63 rfl rfl ?_
      refine v_iadd dX6_rate_64 ?_
      obtain ⟨hi_13, hw⟩ := hw
      refine v_iald dX6_rate_65 (mH_ar2 hb) hi_13 ?_
      refine v_callV q2074 q2076 qs95 q113 q2077 (ci := 7) rfl (mH_obj hb) n_X6_pagesIn ⟨Nat.le_of_ble_eq_true rfl, Nat.le_of_ble_eq_true rfl⟩ [.int (nI 0), .int (ma 2 (((nI 890) + x2)).toNatClampNeg)] [] (met_X6_pagesIn hb hw) rfl (Nat.zero_le _) ⟨Nat.le_refl _, Nat.le_refl _⟩ dX6_rate_66 rfl (v_ki (fun z_14 h1 hv => ?_))
      clear hw
      obtain ⟨e9, hw⟩ := hv
      refine v_heap e9 ?_
      clear e9
      refine v_istore (lv1 := [(4, .int z_14), (3, .int z_12), (0, va_rf (some (b 0))), (1, .int x1), (2, .int x2)]) dX6_rate_69 (Nat.le_of_ble_eq_true rfl) rfl ?_
      refine v_iload_n (q := 1) dX6_rate_71 rfl rfl ?_
      obtain ⟨hw_17, hw_18⟩ := hw
      refine v_if_ne (tgt := 77) dX6_rate_72 (by decide) (fun c_15 => ?_) (fun c_16 => ?_)
      · have hw := hw_17 c_15
        refine v_iload (q := 0) dX6_rate_77 rfl ?_
        refine v_iload_n (q := 1) dX6_rate_79 rfl rfl ?_
        refine v_iadd dX6_rate_80 ?_
        refine v_iconst dX6_rate_81 ic_1 ?_
        refine v_isub dX6_rate_82 ?_
        refine v_iload_n (q := 1) dX6_rate_83 rfl rfl ?_
        obtain ⟨hz_19, hw⟩ := hw
        refine v_idiv dX6_rate_84 hz_19 ?_
        refine v_topi (fun z_20 e_20 => ?_)
        replace hw := hw z_20 e_20
        refine v_istore (lv1 := [(5, .int z_20), (4, .int z_14), (3, .int z_12), (0, va_rf (some (b 0))), (1, .int x1), (2, .int x2)]) dX6_rate_85 (Nat.le_of_ble_eq_true rfl) rfl ?_
        refine v_iload (q := 0) dX6_rate_87 rfl ?_
        refine v_iload_n (q := 4) dX6_rate_89 rfl rfl ?_
        obtain ⟨hw_23, hw_24⟩ := hw
        refine v_icmp_le (tgt := 98) dX6_rate_90 (by decide) (fun c_21 => ?_) (fun c_22 => ?_)
        · have hw := hw_23 c_21
          refine v_iload_n (q := 4) dX6_rate_98 rfl rfl ?_
          refine v_sub [3, 5] rfl ?_
          exact b_X6_rate_99 hb (fun q0 q1 q2 q3 z => ih q0 q1 q2 q3 z) x2 x1 mi ma hw
        · have hw := hw_24 c_22
          refine v_iload (q := 0) dX6_rate_93 rfl ?_
          refine v_goto (tgt := 99) dX6_rate_95 (by decide) ?_
          refine v_sub [3, 5] rfl ?_
          exact b_X6_rate_99 hb (fun q0 q1 q2 q3 z => ih q0 q1 q2 q3 z) x2 z_20 mi ma hw
      · have hw := hw_18 c_16
        refine v_iconst dX6_rate_75 ic_m1 ?_
        exact v_iret dX6_rate_76 rfl ⟨_, rfl, _, _, rfl, hw⟩
theorem e_X6_rate {post : (Int32) → (Nat → Int32) → (Nat → Nat → Int32) → Prop}   {mi : Nat → Int32} {ma : Nat → Nat → Int32} {ml : Nat → Nat → Int64} (hb : mOK b)  (hw : w_X6_rate post  mi ma ml) : VV l E X cX6_rate RX6 "rate" 6 r_X6_rate (some .int) (vpi (fun (r : Int32) (h' : AH) => ∃ (mi' : Nat → Int32) (ma' : Nat → Nat → Int32), h' = (mH b mi' ma' ml) ∧ post r mi' ma')) (mH b mi ma ml) 0 0 0 [(0, va_rf (some (b 0)))] [] := by
  refine v_aload_n (q := 0) dX6_rate_0 rfl rfl ?_
  refine v_iconst dX6_rate_1 ic_0 ?_
  obtain ⟨mi_25, emi_25⟩ : ∃ z9 : Nat → Int32, z9 = upd mi 0 (nI 0) := ⟨_, rfl⟩
  replace hw := hw mi_25 emi_25
  refine vm_put hb 0 (Nat.le_of_ble_eq_true rfl) q1614 rfl rfl rfl dX6_rate_2 emi_25 rfl ?_
  refine v_aload_n (q := 0) dX6_rate_5 rfl rfl ?_
  refine vm_get hb 2 (Nat.le_of_ble_eq_true rfl) q1616 rfl dX6_rate_6 rfl ?_
  refine v_sipush dX6_rate_9 sp_889 ?_
  obtain ⟨hi_26, hw⟩ := hw
  refine v_iald dX6_rate_12 (mH_ar2 hb) hi_26 ?_
  obtain ⟨hw_29, hw_30⟩ := hw
  refine v_if_ne (tgt := 23) dX6_rate_13 (by decide) (fun c_27 => ?_) (fun c_28 => ?_)
  · have hw := hw_29 c_27
    refine v_iconst dX6_rate_23 ic_1 ?_
    refine v_istore_n (lv1 := [(1, .int (nI 1)), (0, va_rf (some (b 0)))]) dX6_rate_24 rfl (Nat.le_of_ble_eq_true rfl) rfl ?_
    refine v_iconst dX6_rate_25 ic_0 ?_
    refine v_istore_n (lv1 := [(2, .int (nI 0)), (1, .int (nI 1)), (0, va_rf (some (b 0)))]) dX6_rate_26 rfl (Nat.le_of_ble_eq_true rfl) rfl ?_
    obtain ⟨n_31, hw⟩ := hw
    refine v_sub [2, 1, 0] rfl ?_
    exact b_X6_rate_27 hb n_31 (nI 1) (nI 0) mi_25 ma hw
  · have hw := hw_30 c_28
    refine v_aload_n (q := 0) dX6_rate_16 rfl rfl ?_
    refine v_bipush dX6_rate_17 bp_m5 ?_
    refine v_callV q1737 q1739 qs53 q113 q1740 (ci := 7) rfl (mH_obj hb) n_X6_no ⟨Nat.le_of_ble_eq_true rfl, Nat.le_of_ble_eq_true rfl⟩ [.int (-5)] [] (met_X6_no hb hw) rfl (Nat.zero_le _) ⟨Nat.le_refl _, Nat.le_refl _⟩ dX6_rate_19 rfl (v_ki (fun z_32 h1 hv => ?_))
    clear hw
    obtain ⟨ma_33, rfl, hw⟩ := hv
    exact v_iret dX6_rate_22 rfl ⟨_, rfl, _, _, rfl, hw⟩
theorem met_X6_rate {post : (Int32) → (Nat → Int32) → (Nat → Nat → Int32) → Prop}   {mi : Nat → Int32} {ma : Nat → Nat → Int32} {ml : Nat → Nat → Int64} (hb : mOK b)  (hw : w_X6_rate post  mi ma ml) : Mt l E yX6_rate (ws_ yX6_rate cX6_rate 6 (some .int)) r_X6_rate [va_rf (some (b 0))] (mH b mi ma ml) (vpi (fun (r : Int32) (h' : AH) => ∃ (mi' : Nat → Int32) (ma' : Nat → Nat → Int32), h' = (mH b mi' ma' ml) ∧ post r mi' ma')) := v_entry (by decide +kernel) (Nat.le_of_ble_eq_true rfl) rfl (fun _ => e_X6_rate hb hw)
/-! X6_world -/
abbrev r_X6_world : Room := { frames := 1, cells := 0, slots := 0, locals := 25 }
theorem n_X6_world : vdn yX6_world 1 := ⟨by decide +kernel, by decide +kernel, by decide +kernel⟩
def w_X6_world_64 (post : (Int32) → (Nat → Int32) → (Nat → Nat → Int32) → Prop) (x1 : Int32) (ml : Nat → Nat → Int64) : Nat → (Int32) → (Nat → Int32) → (Nat → Nat → Int32) → Prop
 | 0, _, _, _ => False
 | n0 + 1, x2, mi, ma =>
 (((nI 16) ≤ x2 → (vp_in (nI 987) 3372 ∧ (vp_in (nI 987) 3372 ∧ ∀ ma_7 : Nat → Nat → Int32, ma_7 = mup ma 2 ((nI 987)).toNatClampNeg ((ma 2 ((nI 987)).toNatClampNeg) + (nI 1)) → (vp_in (nI 987) 3372 ∧ (post ((ma_7 2 ((nI 987)).toNatClampNeg) - (nI 1)) mi ma_7))))) ∧ (¬ (nI 16) ≤ x2 → (vp_in (nI 987) 3372 ∧ (vp_in (((nI 996) + ((nI 16) * (ma 2 ((nI 987)).toNatClampNeg))) + x2) 3372 ∧ ∀ ma_11 : Nat → Nat → Int32, ma_11 = mup ma 2 ((((nI 996) + ((nI 16) * (ma 2 ((nI 987)).toNatClampNeg))) + x2)).toNatClampNeg (nI 0) → (∀ z_12 : Int32, z_12 = x2 + (nI 1) → (w_X6_world_64 post x1 ml n0 z_12 mi ma_11))))))
def w_X6_world (post : (Int32) → (Nat → Int32) → (Nat → Nat → Int32) → Prop) (x1 : Int32) (mi : Nat → Int32) (ma : Nat → Nat → Int32) (ml : Nat → Nat → Int64) : Prop :=
 (∀ mi_13 : Nat → Int32, mi_13 = upd mi 0 (nI 0) → (w_X6_within (fun (z_14 : Int32) => ((¬ z_14 = 0 → (vp_in (nI 987) 3372 ∧ ((¬ (ma 2 ((nI 987)).toNatClampNeg) = (nI 8) → (vp_in (nI 987) 3372 ∧ (vp_in ((nI 988) + (ma 2 ((nI 987)).toNatClampNeg)) 3372 ∧ ∀ ma_26 : Nat → Nat → Int32, ma_26 = mup ma 2 (((nI 988) + (ma 2 ((nI 987)).toNatClampNeg))).toNatClampNeg x1 → (∃ n1 : Nat, (w_X6_world_64 post x1 ml n1 (nI 0) mi_13 ma_26))))) ∧ ((ma 2 ((nI 987)).toNatClampNeg) = (nI 8) → (w_X6_no (fun (z_28 : Int32) (ma_29 : Nat → Nat → Int32) => (post z_28 mi_13 ma_29)) (-4) mi_13 ma ml))))) ∧ (z_14 = 0 → (w_X6_no (fun (z_30 : Int32) (ma_31 : Nat → Nat → Int32) => (post z_30 mi_13 ma_31)) (-3) mi_13 ma ml)))) ((x1).toInt64) (lN 1) (lN 99)))
theorem b_X6_world_64 {post : (Int32) → (Nat → Int32) → (Nat → Nat → Int32) → Prop}   {x1 : Int32} {ml : Nat → Nat → Int64}  (hb : mOK b)   : ∀ (n0 : Nat) (x2 : Int32) (mi : Nat → Int32) (ma : Nat → Nat → Int32), w_X6_world_64 post x1 ml n0 x2 mi ma → VV l E X cX6_world RX6 "world" 3 r_X6_world (some .int) (vpi (fun (r : Int32) (h' : AH) => ∃ (mi' : Nat → Int32) (ma' : Nat → Nat → Int32), h' = (mH b mi' ma' ml) ∧ post r mi' ma')) (mH b mi ma ml) 0 0 64 [(0, va_rf (some (b 0))), (1, .int x1), (2, .int x2)] [] := by
  intro n0
  induction n0 with
  | zero =>
    intro x2 mi ma hw
    exact hw.elim
  | succ n0 ih =>
    intro x2 mi ma hw
    refine v_iload_n (q := 2) dX6_world_64 rfl rfl ?_
    refine v_bipush dX6_world_65 bp_16 ?_
    obtain ⟨hw_3, hw_4⟩ := hw
    refine v_icmp_ge (tgt := 99) dX6_world_67 (by decide) (fun c_1 => ?_) (fun c_2 => ?_)
    · have hw := hw_3 c_1
      refine v_aload_n (q := 0) dX6_world_99 rfl rfl ?_
      refine vm_get hb 2 (Nat.le_of_ble_eq_true rfl) q1616 rfl dX6_world_100 rfl ?_
      refine v_sipush dX6_world_103 sp_987 ?_
      refine v_dup2 dX6_world_106 rfl (v_rf1 _) ?_
      obtain ⟨hi_5, hw⟩ := hw
      refine v_iald dX6_world_107 (mH_ar2 hb) hi_5 ?_
      refine v_iconst dX6_world_108 ic_1 ?_
      refine v_iadd dX6_world_109 ?_
      obtain ⟨hi_6, hw⟩ := hw
      obtain ⟨ma_7, ema_7⟩ : ∃ z9 : Nat → Nat → Int32, z9 = mup ma 2 ((nI 987)).toNatClampNeg ((ma 2 ((nI 987)).toNatClampNeg) + (nI 1)) := ⟨_, rfl⟩
      replace hw := hw ma_7 ema_7
      refine v_iast dX6_world_110 (mH_ar2 hb) hi_6 ?_
      refine v_heap (h' := mH b mi ma_7 ml) (by rw [ema_7]; exact mH_st2 hb) ?_
      refine v_aload_n (q := 0) dX6_world_111 rfl rfl ?_
      refine vm_get hb 2 (Nat.le_of_ble_eq_true rfl) q1616 rfl dX6_world_112 rfl ?_
      refine v_sipush dX6_world_115 sp_987 ?_
      obtain ⟨hi_8, hw⟩ := hw
      refine v_iald dX6_world_118 (mH_ar2 hb) hi_8 ?_
      refine v_iconst dX6_world_119 ic_1 ?_
      refine v_isub dX6_world_120 ?_
      exact v_iret dX6_world_121 rfl ⟨_, rfl, _, _, rfl, hw⟩
    · have hw := hw_4 c_2
      refine v_aload_n (q := 0) dX6_world_70 rfl rfl ?_
      refine vm_get hb 2 (Nat.le_of_ble_eq_true rfl) q1616 rfl dX6_world_71 rfl ?_
      refine v_sipush dX6_world_74 sp_996 ?_
      refine v_bipush dX6_world_77 bp_16 ?_
      refine v_aload_n (q := 0) dX6_world_79 rfl rfl ?_
      refine vm_get hb 2 (Nat.le_of_ble_eq_true rfl) q1616 rfl dX6_world_80 rfl ?_
      refine v_sipush dX6_world_83 sp_987 ?_
      obtain ⟨hi_9, hw⟩ := hw
      refine v_iald dX6_world_86 (mH_ar2 hb) hi_9 ?_
      refine v_imul dX6_world_87 ?_
      refine v_iadd dX6_world_88 ?_
      refine v_iload_n (q := 2) dX6_world_89 rfl rfl ?_
      refine v_iadd dX6_world_90 ?_
      refine v_iconst dX6_world_91 ic_0 ?_
      obtain ⟨hi_10, hw⟩ := hw
      obtain ⟨ma_11, ema_11⟩ : ∃ z9 : Nat → Nat → Int32, z9 = mup ma 2 ((((nI 996) + ((nI 16) * (ma 2 ((nI 987)).toNatClampNeg))) + x2)).toNatClampNeg (nI 0) := ⟨_, rfl⟩
      replace hw := hw ma_11 ema_11
      refine v_iast dX6_world_92 (mH_ar2 hb) hi_10 ?_
      refine v_heap (h' := mH b mi ma_11 ml) (by rw [ema_11]; exact mH_st2 hb) ?_
      obtain ⟨z_12, e_12⟩ : ∃ z9 : Int32, z9 = x2 + (nI 1) := ⟨_, rfl⟩
      replace hw := hw z_12 e_12
      refine v_iinc (q := 2) (v := z_12) (lv1 := [(2, .int z_12), (0, va_rf (some (b 0))), (1, .int x1)]) dX6_world_93 rfl (by rw [e_12, ic_1]) (Nat.le_of_ble_eq_true rfl) rfl ?_
      refine v_goto (tgt := 64) dX6_world_96 (by decide) ?_
      refine v_sub [1, 2, 0] rfl ?_
      exact ih z_12 mi ma_11 hw
theorem e_X6_world {post : (Int32) → (Nat → Int32) → (Nat → Nat → Int32) → Prop}   {x1 : Int32} {mi : Nat → Int32} {ma : Nat → Nat → Int32} {ml : Nat → Nat → Int64} (hb : mOK b)  (hw : w_X6_world post  x1 mi ma ml) : VV l E X cX6_world RX6 "world" 3 r_X6_world (some .int) (vpi (fun (r : Int32) (h' : AH) => ∃ (mi' : Nat → Int32) (ma' : Nat → Nat → Int32), h' = (mH b mi' ma' ml) ∧ post r mi' ma')) (mH b mi ma ml) 0 0 0 [(0, va_rf (some (b 0))), (1, .int x1)] [] := by
  refine v_aload_n (q := 0) dX6_world_0 rfl rfl ?_
  refine v_iconst dX6_world_1 ic_0 ?_
  obtain ⟨mi_13, emi_13⟩ : ∃ z9 : Nat → Int32, z9 = upd mi 0 (nI 0) := ⟨_, rfl⟩
  replace hw := hw mi_13 emi_13
  refine vm_put hb 0 (Nat.le_of_ble_eq_true rfl) q1614 rfl rfl rfl dX6_world_2 emi_13 rfl ?_
  refine v_iload_n (q := 1) dX6_world_5 rfl rfl ?_
  refine v_i2l dX6_world_6 ?_
  refine v_lconst (v := lN 1) dX6_world_7 rfl ?_
  refine v_ldc2 (v := (lN 99)) dX6_world_8 q2069 ?_
  refine v_callS q1734 q1735 q113 q1736 n_X6_within ⟨Nat.le_of_ble_eq_true rfl, Nat.le_of_ble_eq_true rfl⟩ [.long ((x1).toInt64), .long (lN 1), .long (lN 99)] [] (met_X6_within hw) rfl (Nat.zero_le _) ⟨Nat.le_refl _, Nat.le_refl _⟩ dX6_world_11 rfl (v_ki (fun z_14 h1 hv => ?_))
  clear hw
  obtain ⟨e9, hw⟩ := hv
  refine v_heap e9 ?_
  clear e9
  obtain ⟨hw_17, hw_18⟩ := hw
  refine v_if_ne (tgt := 24) dX6_world_14 (by decide) (fun c_15 => ?_) (fun c_16 => ?_)
  · have hw := hw_17 c_15
    refine v_aload_n (q := 0) dX6_world_24 rfl rfl ?_
    refine vm_get hb 2 (Nat.le_of_ble_eq_true rfl) q1616 rfl dX6_world_25 rfl ?_
    refine v_sipush dX6_world_28 sp_987 ?_
    obtain ⟨hi_19, hw⟩ := hw
    refine v_iald dX6_world_31 (mH_ar2 hb) hi_19 ?_
    refine v_bipush dX6_world_32 bp_8 ?_
    obtain ⟨hw_22, hw_23⟩ := hw
    refine v_icmp_ne (tgt := 44) dX6_world_34 (by decide) (fun c_20 => ?_) (fun c_21 => ?_)
    · have hw := hw_22 c_20
      refine v_aload_n (q := 0) dX6_world_44 rfl rfl ?_
      refine vm_get hb 2 (Nat.le_of_ble_eq_true rfl) q1616 rfl dX6_world_45 rfl ?_
      refine v_sipush dX6_world_48 sp_988 ?_
      refine v_aload_n (q := 0) dX6_world_51 rfl rfl ?_
      refine vm_get hb 2 (Nat.le_of_ble_eq_true rfl) q1616 rfl dX6_world_52 rfl ?_
      refine v_sipush dX6_world_55 sp_987 ?_
      obtain ⟨hi_24, hw⟩ := hw
      refine v_iald dX6_world_58 (mH_ar2 hb) hi_24 ?_
      refine v_iadd dX6_world_59 ?_
      refine v_iload_n (q := 1) dX6_world_60 rfl rfl ?_
      obtain ⟨hi_25, hw⟩ := hw
      obtain ⟨ma_26, ema_26⟩ : ∃ z9 : Nat → Nat → Int32, z9 = mup ma 2 (((nI 988) + (ma 2 ((nI 987)).toNatClampNeg))).toNatClampNeg x1 := ⟨_, rfl⟩
      replace hw := hw ma_26 ema_26
      refine v_iast dX6_world_61 (mH_ar2 hb) hi_25 ?_
      refine v_heap (h' := mH b mi_13 ma_26 ml) (by rw [ema_26]; exact mH_st2 hb) ?_
      refine v_iconst dX6_world_62 ic_0 ?_
      refine v_istore_n (lv1 := [(2, .int (nI 0)), (0, va_rf (some (b 0))), (1, .int x1)]) dX6_world_63 rfl (Nat.le_of_ble_eq_true rfl) rfl ?_
      obtain ⟨n_27, hw⟩ := hw
      refine v_sub [1, 2, 0] rfl ?_
      exact b_X6_world_64 hb n_27 (nI 0) mi_13 ma_26 hw
    · have hw := hw_23 c_21
      refine v_aload_n (q := 0) dX6_world_37 rfl rfl ?_
      refine v_bipush dX6_world_38 bp_m4 ?_
      refine v_callV q1737 q1739 qs53 q113 q1740 (ci := 7) rfl (mH_obj hb) n_X6_no ⟨Nat.le_of_ble_eq_true rfl, Nat.le_of_ble_eq_true rfl⟩ [.int (-4)] [] (met_X6_no hb hw) rfl (Nat.zero_le _) ⟨Nat.le_refl _, Nat.le_refl _⟩ dX6_world_40 rfl (v_ki (fun z_28 h1 hv => ?_))
      clear hw
      obtain ⟨ma_29, rfl, hw⟩ := hv
      exact v_iret dX6_world_43 rfl ⟨_, rfl, _, _, rfl, hw⟩
  · have hw := hw_18 c_16
    refine v_aload_n (q := 0) dX6_world_17 rfl rfl ?_
    refine v_bipush dX6_world_18 bp_m3 ?_
    refine v_callV q1737 q1739 qs53 q113 q1740 (ci := 7) rfl (mH_obj hb) n_X6_no ⟨Nat.le_of_ble_eq_true rfl, Nat.le_of_ble_eq_true rfl⟩ [.int (-3)] [] (met_X6_no hb hw) rfl (Nat.zero_le _) ⟨Nat.le_refl _, Nat.le_refl _⟩ dX6_world_20 rfl (v_ki (fun z_30 h1 hv => ?_))
    clear hw
    obtain ⟨ma_31, rfl, hw⟩ := hv
    exact v_iret dX6_world_23 rfl ⟨_, rfl, _, _, rfl, hw⟩
theorem met_X6_world {post : (Int32) → (Nat → Int32) → (Nat → Nat → Int32) → Prop}   {x1 : Int32} {mi : Nat → Int32} {ma : Nat → Nat → Int32} {ml : Nat → Nat → Int64} (hb : mOK b)  (hw : w_X6_world post  x1 mi ma ml) : Mt l E yX6_world (ws_ yX6_world cX6_world 3 (some .int)) r_X6_world [va_rf (some (b 0)), .int x1] (mH b mi ma ml) (vpi (fun (r : Int32) (h' : AH) => ∃ (mi' : Nat → Int32) (ma' : Nat → Nat → Int32), h' = (mH b mi' ma' ml) ∧ post r mi' ma')) := v_entry (by decide +kernel) (Nat.le_of_ble_eq_true rfl) rfl (fun _ => e_X6_world hb hw)
/-! X6_says -/
abbrev r_X6_says : Room := { frames := 1, cells := 0, slots := 0, locals := 25 }
theorem n_X6_says : vdn yX6_says 3 := ⟨by decide +kernel, by decide +kernel, by decide +kernel⟩
def w_X6_says_37 (post : (Int32) → (Nat → Int32) → (Nat → Nat → Int32) → Prop) (x1 : Int32) (x2 : Int32) (x3 : Int32) (ml : Nat → Nat → Int64) (mi : Nat → Int32) (ma : Nat → Nat → Int32) : Prop :=
 (w_X6_no (fun (z_1 : Int32) (ma_2 : Nat → Nat → Int32) => (post z_1 mi ma_2)) (-2) mi ma ml)
def w_X6_says (post : (Int32) → (Nat → Int32) → (Nat → Nat → Int32) → Prop) (x1 : Int32) (x2 : Int32) (x3 : Int32) (mi : Nat → Int32) (ma : Nat → Nat → Int32) (ml : Nat → Nat → Int64) : Prop :=
 (∀ mi_3 : Nat → Int32, mi_3 = upd mi 0 (nI 0) → (vp_in (nI 987) 3372 ∧ (w_X6_within (fun (z_5 : Int32) => ((z_5 = 0 → (w_X6_says_37 post x1 x2 x3 ml mi_3 ma)) ∧ (¬ z_5 = 0 → (w_X6_within (fun (z_10 : Int32) => ((¬ z_10 = 0 → (w_X6_within (fun (z_15 : Int32) => ((¬ z_15 = 0 → (vp_in (((nI 996) + ((nI 16) * x1)) + x2) 3372 ∧ (∀ z_21 : Int32, z_21 = (ma 2 ((((nI 996) + ((nI 16) * x1)) + x2)).toNatClampNeg) → (vp_in (((nI 996) + ((nI 16) * x1)) + x2) 3372 ∧ ∀ ma_23 : Nat → Nat → Int32, ma_23 = mup ma 2 ((((nI 996) + ((nI 16) * x1)) + x2)).toNatClampNeg x3 → (post z_21 mi_3 ma_23))))) ∧ (z_15 = 0 → (w_X6_no (fun (z_24 : Int32) (ma_25 : Nat → Nat → Int32) => (post z_24 mi_3 ma_25)) (-3) mi_3 ma ml)))) ((x3).toInt64) (lN 0) (lN 3))) ∧ (z_10 = 0 → (w_X6_says_37 post x1 x2 x3 ml mi_3 ma)))) ((x2).toInt64) (lN 0) (lN 15))))) ((x1).toInt64) (lN 0) ((((ma 2 ((nI 987)).toNatClampNeg) - (nI 1))).toInt64))))
theorem b_X6_says_37 {post : (Int32) → (Nat → Int32) → (Nat → Nat → Int32) → Prop}   {x1 : Int32} {x2 : Int32} {x3 : Int32} {ml : Nat → Nat → Int64}  (hb : mOK b)   (mi : Nat → Int32) (ma : Nat → Nat → Int32) (hw : w_X6_says_37 post x1 x2 x3 ml mi ma) : VV l E X cX6_says RX6 "says" 5 r_X6_says (some .int) (vpi (fun (r : Int32) (h' : AH) => ∃ (mi' : Nat → Int32) (ma' : Nat → Nat → Int32), h' = (mH b mi' ma' ml) ∧ post r mi' ma')) (mH b mi ma ml) 0 0 37 [(0, va_rf (some (b 0))), (1, .int x1), (2, .int x2), (3, .int x3)] [] := by
  refine v_aload_n (q := 0) dX6_says_37 rfl rfl ?_
  refine v_bipush dX6_says_38 bp_m2 ?_
  refine v_callV q1737 q1739 qs53 q113 q1740 (ci := 7) rfl (mH_obj hb) n_X6_no ⟨Nat.le_of_ble_eq_true rfl, Nat.le_of_ble_eq_true rfl⟩ [.int (-2)] [] (met_X6_no hb hw) rfl (Nat.zero_le _) ⟨Nat.le_refl _, Nat.le_refl _⟩ dX6_says_40 rfl (v_ki (fun z_1 h1 hv => ?_))
  clear hw
  obtain ⟨ma_2, rfl, hw⟩ := hv
  exact v_iret dX6_says_43 rfl ⟨_, rfl, _, _, rfl, hw⟩
theorem e_X6_says {post : (Int32) → (Nat → Int32) → (Nat → Nat → Int32) → Prop}   {x1 : Int32} {x2 : Int32} {x3 : Int32} {mi : Nat → Int32} {ma : Nat → Nat → Int32} {ml : Nat → Nat → Int64} (hb : mOK b)  (hw : w_X6_says post  x1 x2 x3 mi ma ml) : VV l E X cX6_says RX6 "says" 5 r_X6_says (some .int) (vpi (fun (r : Int32) (h' : AH) => ∃ (mi' : Nat → Int32) (ma' : Nat → Nat → Int32), h' = (mH b mi' ma' ml) ∧ post r mi' ma')) (mH b mi ma ml) 0 0 0 [(0, va_rf (some (b 0))), (1, .int x1), (2, .int x2), (3, .int x3)] [] := by
  refine v_aload_n (q := 0) dX6_says_0 rfl rfl ?_
  refine v_iconst dX6_says_1 ic_0 ?_
  obtain ⟨mi_3, emi_3⟩ : ∃ z9 : Nat → Int32, z9 = upd mi 0 (nI 0) := ⟨_, rfl⟩
  replace hw := hw mi_3 emi_3
  refine vm_put hb 0 (Nat.le_of_ble_eq_true rfl) q1614 rfl rfl rfl dX6_says_2 emi_3 rfl ?_
  refine v_iload_n (q := 1) dX6_says_5 rfl rfl ?_
  refine v_i2l dX6_says_6 ?_
  refine v_lconst (v := lN 0) dX6_says_7 rfl ?_
  refine v_aload_n (q := 0) dX6_says_8 rfl rfl ?_
  refine vm_get hb 2 (Nat.le_of_ble_eq_true rfl) q1616 rfl dX6_says_9 rfl ?_
  refine v_sipush dX6_says_12 sp_987 ?_
  obtain ⟨hi_4, hw⟩ := hw
  refine v_iald dX6_says_15 (mH_ar2 hb) hi_4 ?_
  refine v_iconst dX6_says_16 ic_1 ?_
  refine v_isub dX6_says_17 ?_
  refine v_i2l dX6_says_18 ?_
  refine v_callS q1734 q1735 q113 q1736 n_X6_within ⟨Nat.le_of_ble_eq_true rfl, Nat.le_of_ble_eq_true rfl⟩ [.long ((x1).toInt64), .long (lN 0), .long ((((ma 2 ((nI 987)).toNatClampNeg) - (nI 1))).toInt64)] [] (met_X6_within hw) rfl (Nat.zero_le _) ⟨Nat.le_refl _, Nat.le_refl _⟩ dX6_says_19 rfl (v_ki (fun z_5 h1 hv => ?_))
  clear hw
  obtain ⟨e9, hw⟩ := hv
  refine v_heap e9 ?_
  clear e9
  obtain ⟨hw_8, hw_9⟩ := hw
  refine v_if_eq (tgt := 37) dX6_says_22 (by decide) (fun c_6 => ?_) (fun c_7 => ?_)
  · have hw := hw_8 c_6
    refine v_sub [0, 1, 2, 3] rfl ?_
    exact b_X6_says_37 hb mi_3 ma hw
  · have hw := hw_9 c_7
    refine v_iload_n (q := 2) dX6_says_25 rfl rfl ?_
    refine v_i2l dX6_says_26 ?_
    refine v_lconst (v := lN 0) dX6_says_27 rfl ?_
    refine v_ldc2 (v := (lN 15)) dX6_says_28 q1742 ?_
    refine v_callS q1734 q1735 q113 q1736 n_X6_within ⟨Nat.le_of_ble_eq_true rfl, Nat.le_of_ble_eq_true rfl⟩ [.long ((x2).toInt64), .long (lN 0), .long (lN 15)] [] (met_X6_within hw) rfl (Nat.zero_le _) ⟨Nat.le_refl _, Nat.le_refl _⟩ dX6_says_31 rfl (v_ki (fun z_10 h1 hv => ?_))
    clear hw
    obtain ⟨e9, hw⟩ := hv
    refine v_heap e9 ?_
    clear e9
    obtain ⟨hw_13, hw_14⟩ := hw
    refine v_if_ne (tgt := 44) dX6_says_34 (by decide) (fun c_11 => ?_) (fun c_12 => ?_)
    · have hw := hw_13 c_11
      refine v_iload_n (q := 3) dX6_says_44 rfl rfl ?_
      refine v_i2l dX6_says_45 ?_
      refine v_lconst (v := lN 0) dX6_says_46 rfl ?_
      refine v_ldc2 (v := (lN 3)) dX6_says_47 q2059 ?_
      refine v_callS q1734 q1735 q113 q1736 n_X6_within ⟨Nat.le_of_ble_eq_true rfl, Nat.le_of_ble_eq_true rfl⟩ [.long ((x3).toInt64), .long (lN 0), .long (lN 3)] [] (met_X6_within hw) rfl (Nat.zero_le _) ⟨Nat.le_refl _, Nat.le_refl _⟩ dX6_says_50 rfl (v_ki (fun z_15 h1 hv => ?_))
      clear hw
      obtain ⟨e9, hw⟩ := hv
      refine v_heap e9 ?_
      clear e9
      obtain ⟨hw_18, hw_19⟩ := hw
      refine v_if_ne (tgt := 63) dX6_says_53 (by decide) (fun c_16 => ?_) (fun c_17 => ?_)
      · have hw := hw_18 c_16
        refine v_aload_n (q := 0) dX6_says_63 rfl rfl ?_
        refine vm_get hb 2 (Nat.le_of_ble_eq_true rfl) q1616 rfl dX6_says_64 rfl ?_
        refine v_sipush dX6_says_67 sp_996 ?_
        refine v_bipush dX6_says_70 bp_16 ?_
        refine v_iload_n (q := 1) dX6_says_72 rfl rfl ?_
        refine v_imul dX6_says_73 ?_
        refine v_iadd dX6_says_74 ?_
        refine v_iload_n (q := 2) dX6_says_75 rfl rfl ?_
        refine v_iadd dX6_says_76 ?_
        obtain ⟨hi_20, hw⟩ := hw
        refine v_iald dX6_says_77 (mH_ar2 hb) hi_20 ?_
        refine v_topi (fun z_21 e_21 => ?_)
        replace hw := hw z_21 e_21
        refine v_istore (lv1 := [(4, .int z_21), (0, va_rf (some (b 0))), (1, .int x1), (2, .int x2), (3, .int x3)]) dX6_says_78 (Nat.le_of_ble_eq_true rfl) rfl ?_
        refine v_aload_n (q := 1) dX6_says_80 rfl rfl ?_
        refine vm_get hb 2 (Nat.le_of_ble_eq_true rfl) q1616 rfl dX6_says_81 rfl ?_
        refine v_sipush dX6_says_84 sp_996 ?_
        refine v_bipush dX6_says_87 bp_16 ?_
        refine v_iload_n (q := 2) dX6_says_89 rfl rfl ?_
        refine v_imul dX6_says_90 ?_
        refine v_iadd dX6_says_91 ?_
        refine v_iload_n (q := 3) dX6_says_92 rfl rfl ?_
        refine v_iadd dX6_says_93 ?_
        refine v_iload_n (q := 4) dX6_says_94 rfl rfl ?_
        obtain ⟨hi_22, hw⟩ := hw
        obtain ⟨ma_23, ema_23⟩ : ∃ z9 : Nat → Nat → Int32, z9 = mup ma 2 ((((nI 996) + ((nI 16) * x1)) + x2)).toNatClampNeg x3 := ⟨_, rfl⟩
        replace hw := hw ma_23 ema_23
        refine v_iast dX6_says_95 (mH_ar2 hb) hi_22 ?_
        refine v_heap (h' := mH b mi_3 ma_23 ml) (by rw [ema_23]; exact mH_st2 hb) ?_
        refine v_iload (q := 0) dX6_says_96 rfl ?_
        exact v_iret dX6_says_98 rfl ⟨_, rfl, _, _, rfl, hw⟩
      · have hw := hw_19 c_17
        refine v_aload_n (q := 0) dX6_says_56 rfl rfl ?_
        refine v_bipush dX6_says_57 bp_m3 ?_
        refine v_callV q1737 q1739 qs53 q113 q1740 (ci := 7) rfl (mH_obj hb) n_X6_no ⟨Nat.le_of_ble_eq_true rfl, Nat.le_of_ble_eq_true rfl⟩ [.int (-3)] [] (met_X6_no hb hw) rfl (Nat.zero_le _) ⟨Nat.le_refl _, Nat.le_refl _⟩ dX6_says_59 rfl (v_ki (fun z_24 h1 hv => ?_))
        clear hw
        obtain ⟨ma_25, rfl, hw⟩ := hv
        exact v_iret dX6_says_62 rfl ⟨_, rfl, _, _, rfl, hw⟩
    · have hw := hw_14 c_12
      refine v_sub [0, 1, 2, 3] rfl ?_
      exact b_X6_says_37 hb mi_3 ma hw
theorem met_X6_says {post : (Int32) → (Nat → Int32) → (Nat → Nat → Int32) → Prop}   {x1 : Int32} {x2 : Int32} {x3 : Int32} {mi : Nat → Int32} {ma : Nat → Nat → Int32} {ml : Nat → Nat → Int64} (hb : mOK b)  (hw : w_X6_says post  x1 x2 x3 mi ma ml) : Mt l E yX6_says (ws_ yX6_says cX6_says 5 (some .int)) r_X6_says [va_rf (some (b 0)), .int x1, .int x2, .int x3] (mH b mi ma ml) (vpi (fun (r : Int32) (h' : AH) => ∃ (mi' : Nat → Int32) (ma' : Nat → Nat → Int32), h' = (mH b mi' ma' ml) ∧ post r mi' ma')) := v_entry (by decide +kernel) (Nat.le_of_ble_eq_true rfl) rfl (fun _ => e_X6_says hb hw)
/-! X6_weightOf -/
abbrev r_X6_weightOf : Room := { frames := 0, cells := 0, slots := 0, locals := 0 }
theorem n_X6_weightOf : vdn yX6_weightOf 1 := ⟨by decide +kernel, by decide +kernel, by decide +kernel⟩
def w_X6_weightOf_40 (post : (Int32) → Prop) (k4 : (Int32) → (Int32) → Prop) (x1 : Int32) (mi : Nat → Int32) (ma : Nat → Nat → Int32) (ml : Nat → Nat → Int64) (x3 : Int32) (s0 : Int32) (s1 : Int32) : Prop :=
 (∀ z_1 : Int32, z_1 = (s1 + s0) → (∀ z_2 : Int32, z_2 = x3 + (nI 1) → (k4 z_1 z_2)))
def w_X6_weightOf_4 (post : (Int32) → Prop) (x1 : Int32) (mi : Nat → Int32) (ma : Nat → Nat → Int32) (ml : Nat → Nat → Int64) : Nat → (Int32) → (Int32) → Prop
 | 0, _, _ => False
 | n0 + 1, x2, x3 =>
 (vp_in (nI 987) 3372 ∧ (((ma 2 ((nI 987)).toNatClampNeg) ≤ x3 → (post x2)) ∧ (¬ (ma 2 ((nI 987)).toNatClampNeg) ≤ x3 → ((¬ ((x1 >>> (x3 &&& 31)) &&& (nI 1)) = (nI 1) → (w_X6_weightOf_40 post (fun (q0 : Int32) (q1 : Int32) => w_X6_weightOf_4 post x1 mi ma ml n0 q0 q1) x1 mi ma ml x3 (nI 0) x2)) ∧ (((x1 >>> (x3 &&& 31)) &&& (nI 1)) = (nI 1) → (vp_in ((nI 988) + x3) 3372 ∧ (w_X6_weightOf_40 post (fun (q0 : Int32) (q1 : Int32) => w_X6_weightOf_4 post x1 mi ma ml n0 q0 q1) x1 mi ma ml x3 (ma 2 (((nI 988) + x3)).toNatClampNeg) x2)))))))
def w_X6_weightOf (post : (Int32) → Prop) (x1 : Int32) (mi : Nat → Int32) (ma : Nat → Nat → Int32) (ml : Nat → Nat → Int64) : Prop :=
 (∃ n1 : Nat, (w_X6_weightOf_4 post x1 mi ma ml n1 (nI 0) (nI 0)))
theorem b_X6_weightOf_40 {post : (Int32) → Prop}   {x1 : Int32} {mi : Nat → Int32} {ma : Nat → Nat → Int32} {ml : Nat → Nat → Int64} {k4 : (Int32) → (Int32) → Prop} (hb : mOK b)  (hk4 : ∀ (x2 : Int32) (x3 : Int32), k4 x2 x3 → VV l E X cX6_weightOf RX6 "weightOf" 4 r_X6_weightOf (some .int) (vpi (fun (r : Int32) (h' : AH) => h' = (mH b mi ma ml) ∧ post r)) (mH b mi ma ml) 0 0 4 [(0, va_rf (some (b 0))), (1, .int x1), (2, .int x2), (3, .int x3)] []) (x3 : Int32) (s0 : Int32) (s1 : Int32) (hw : w_X6_weightOf_40 post k4 x1 mi ma ml x3 s0 s1) : VV l E X cX6_weightOf RX6 "weightOf" 4 r_X6_weightOf (some .int) (vpi (fun (r : Int32) (h' : AH) => h' = (mH b mi ma ml) ∧ post r)) (mH b mi ma ml) 0 0 40 [(0, va_rf (some (b 0))), (1, .int x1), (3, .int x3)] [.int s0, .int s1] := by
  refine v_iadd dX6_weightOf_40 ?_
  refine v_topi (fun z_1 e_1 => ?_)
  replace hw := hw z_1 e_1
  refine v_istore_n (lv1 := [(2, .int z_1), (0, va_rf (some (b 0))), (1, .int x1), (3, .int x3)]) dX6_weightOf_41 rfl (Nat.le_of_ble_eq_true rfl) rfl ?_
  obtain ⟨z_2, e_2⟩ : ∃ z9 : Int32, z9 = x3 + (nI 1) := ⟨_, rfl⟩
  replace hw := hw z_2 e_2
  refine v_iinc (q := 3) (v := z_2) (lv1 := [(3, .int z_2), (2, .int z_1), (0, va_rf (some (b 0))), (1, .int x1)]) dX6_weightOf_42 rfl (by rw [e_2, ic_1]) (Nat.le_of_ble_eq_true rfl) rfl ?_
  refine v_goto (tgt := 4) dX6_weightOf_45 (by decide) ?_
  refine v_sub [2, 3, 1, 0] rfl ?_
  exact hk4 z_1 z_2 hw
theorem b_X6_weightOf_4 {post : (Int32) → Prop}   {x1 : Int32} {mi : Nat → Int32} {ma : Nat → Nat → Int32} {ml : Nat → Nat → Int64}  (hb : mOK b)   : ∀ (n0 : Nat) (x2 : Int32) (x3 : Int32), w_X6_weightOf_4 post x1 mi ma ml n0 x2 x3 → VV l E X cX6_weightOf RX6 "weightOf" 4 r_X6_weightOf (some .int) (vpi (fun (r : Int32) (h' : AH) => h' = (mH b mi ma ml) ∧ post r)) (mH b mi ma ml) 0 0 4 [(0, va_rf (some (b 0))), (1, .int x1), (2, .int x2), (3, .int x3)] [] := by
  intro n0
  induction n0 with
  | zero =>
    intro x2 x3 hw
    exact hw.elim
  | succ n0 ih =>
    intro x2 x3 hw
    refine v_iload_n (q := 3) dX6_weightOf_4 rfl rfl ?_
    refine v_aload_n (q := 0) dX6_weightOf_5 rfl rfl ?_
    refine vm_get hb 2 (Nat.le_of_ble_eq_true rfl) q1616 rfl dX6_weightOf_6 rfl ?_
    refine v_sipush dX6_weightOf_9 sp_987 ?_
    obtain ⟨hi_3, hw⟩ := hw
    refine v_iald dX6_weightOf_12 (mH_ar2 hb) hi_3 ?_
    obtain ⟨hw_6, hw_7⟩ := hw
    refine v_icmp_ge (tgt := 48) dX6_weightOf_13 (by decide) (fun c_4 => ?_) (fun c_5 => ?_)
    · have hw := hw_6 c_4
      refine v_iload_n (q := 2) dX6_weightOf_48 rfl rfl ?_
      exact v_iret dX6_weightOf_49 rfl ⟨_, rfl, rfl, hw⟩
    · have hw := hw_7 c_5
      refine v_iload_n (q := 2) dX6_weightOf_16 rfl rfl ?_
      refine v_iload_n (q := 1) dX6_weightOf_17 rfl rfl ?_
      refine v_iload_n (q := 3) dX6_weightOf_18 rfl rfl ?_
      refine v_ishr dX6_weightOf_19 ?_
      refine v_iconst dX6_weightOf_20 ic_1 ?_
      refine v_iand dX6_weightOf_21 ?_
      refine v_iconst dX6_weightOf_22 ic_1 ?_
      obtain ⟨hw_10, hw_11⟩ := hw
      refine v_icmp_ne (tgt := 39) dX6_weightOf_23 (by decide) (fun c_8 => ?_) (fun c_9 => ?_)
      · have hw := hw_10 c_8
        refine v_iconst dX6_weightOf_39 ic_0 ?_
        refine v_sub [0, 1, 3] rfl ?_
        exact b_X6_weightOf_40 hb (fun q0 q1 z => ih q0 q1 z) x3 (nI 0) x2 hw
      · have hw := hw_11 c_9
        refine v_aload_n (q := 0) dX6_weightOf_26 rfl rfl ?_
        refine vm_get hb 2 (Nat.le_of_ble_eq_true rfl) q1616 rfl dX6_weightOf_27 rfl ?_
        refine v_sipush dX6_weightOf_30 sp_988 ?_
        refine v_iload_n (q := 3) dX6_weightOf_33 rfl rfl ?_
        refine v_iadd dX6_weightOf_34 ?_
        obtain ⟨hi_12, hw⟩ := hw
        refine v_iald dX6_weightOf_35 (mH_ar2 hb) hi_12 ?_
        refine v_goto (tgt := 40) dX6_weightOf_36 (by decide) ?_
        refine v_sub [0, 1, 3] rfl ?_
        exact b_X6_weightOf_40 hb (fun q0 q1 z => ih q0 q1 z) x3 (ma 2 (((nI 988) + x3)).toNatClampNeg) x2 hw
theorem e_X6_weightOf {post : (Int32) → Prop}   {x1 : Int32} {mi : Nat → Int32} {ma : Nat → Nat → Int32} {ml : Nat → Nat → Int64} (hb : mOK b)  (hw : w_X6_weightOf post  x1 mi ma ml) : VV l E X cX6_weightOf RX6 "weightOf" 4 r_X6_weightOf (some .int) (vpi (fun (r : Int32) (h' : AH) => h' = (mH b mi ma ml) ∧ post r)) (mH b mi ma ml) 0 0 0 [(0, va_rf (some (b 0))), (1, .int x1)] [] := by
  refine v_iconst dX6_weightOf_0 ic_0 ?_
  refine v_istore_n (lv1 := [(2, .int (nI 0)), (0, va_rf (some (b 0))), (1, .int x1)]) dX6_weightOf_1 rfl (Nat.le_of_ble_eq_true rfl) rfl ?_
  refine v_iconst dX6_weightOf_2 ic_0 ?_
  refine v_istore_n (lv1 := [(3, .int (nI 0)), (2, .int (nI 0)), (0, va_rf (some (b 0))), (1, .int x1)]) dX6_weightOf_3 rfl (Nat.le_of_ble_eq_true rfl) rfl ?_
  obtain ⟨n_13, hw⟩ := hw
  refine v_sub [2, 3, 1, 0] rfl ?_
  exact b_X6_weightOf_4 hb n_13 (nI 0) (nI 0) hw
theorem met_X6_weightOf {post : (Int32) → Prop}   {x1 : Int32} {mi : Nat → Int32} {ma : Nat → Nat → Int32} {ml : Nat → Nat → Int64} (hb : mOK b)  (hw : w_X6_weightOf post  x1 mi ma ml) : Mt l E yX6_weightOf (ws_ yX6_weightOf cX6_weightOf 4 (some .int)) r_X6_weightOf [va_rf (some (b 0)), .int x1] (mH b mi ma ml) (vpi (fun (r : Int32) (h' : AH) => h' = (mH b mi ma ml) ∧ post r)) := v_entry (by decide +kernel) (Nat.le_of_ble_eq_true rfl) rfl (fun _ => e_X6_weightOf hb hw)
/-! X6_saying -/
abbrev r_X6_saying : Room := { frames := 0, cells := 0, slots := 0, locals := 0 }
theorem n_X6_saying : vdn yX6_saying 3 := ⟨by decide +kernel, by decide +kernel, by decide +kernel⟩
def w_X6_saying_58 (post : (Int32) → Prop) (k6 : (Int32) → (Int32) → Prop) (x1 : Int32) (x2 : Int32) (x3 : Int32) (mi : Nat → Int32) (ma : Nat → Nat → Int32) (ml : Nat → Nat → Int64) (x4 : Int32) (x5 : Int32) : Prop :=
 (∀ z_1 : Int32, z_1 = x5 + (nI 1) → (k6 x4 z_1))
def w_X6_saying_6 (post : (Int32) → Prop) (x1 : Int32) (x2 : Int32) (x3 : Int32) (mi : Nat → Int32) (ma : Nat → Nat → Int32) (ml : Nat → Nat → Int64) : Nat → (Int32) → (Int32) → Prop
 | 0, _, _ => False
 | n0 + 1, x4, x5 =>
 (vp_in (nI 987) 3372 ∧ (((ma 2 ((nI 987)).toNatClampNeg) ≤ x5 → (post x4)) ∧ (¬ (ma 2 ((nI 987)).toNatClampNeg) ≤ x5 → ((¬ ((x1 >>> (x5 &&& 31)) &&& (nI 1)) = (nI 1) → (w_X6_saying_58 post (fun (q0 : Int32) (q1 : Int32) => w_X6_saying_6 post x1 x2 x3 mi ma ml n0 q0 q1) x1 x2 x3 mi ma ml x4 x5)) ∧ (((x1 >>> (x5 &&& 31)) &&& (nI 1)) = (nI 1) → (vp_in (((nI 996) + ((nI 16) * x5)) + x2) 3372 ∧ ((¬ (ma 2 ((((nI 996) + ((nI 16) * x5)) + x2)).toNatClampNeg) = x3 → (w_X6_saying_58 post (fun (q0 : Int32) (q1 : Int32) => w_X6_saying_6 post x1 x2 x3 mi ma ml n0 q0 q1) x1 x2 x3 mi ma ml x4 x5)) ∧ ((ma 2 ((((nI 996) + ((nI 16) * x5)) + x2)).toNatClampNeg) = x3 → (∀ z_16 : Int32, z_16 = (x4 ||| ((nI 1) <<< (x5 &&& 31))) → (w_X6_saying_58 post (fun (q0 : Int32) (q1 : Int32) => w_X6_saying_6 post x1 x2 x3 mi ma ml n0 q0 q1) x1 x2 x3 mi ma ml z_16 x5))))))))))
def w_X6_saying (post : (Int32) → Prop) (x1 : Int32) (x2 : Int32) (x3 : Int32) (mi : Nat → Int32) (ma : Nat → Nat → Int32) (ml : Nat → Nat → Int64) : Prop :=
 (∃ n1 : Nat, (w_X6_saying_6 post x1 x2 x3 mi ma ml n1 (nI 0) (nI 0)))
theorem b_X6_saying_58 {post : (Int32) → Prop}   {x1 : Int32} {x2 : Int32} {x3 : Int32} {mi : Nat → Int32} {ma : Nat → Nat → Int32} {ml : Nat → Nat → Int64} {k6 : (Int32) → (Int32) → Prop} (hb : mOK b)  (hk6 : ∀ (x4 : Int32) (x5 : Int32), k6 x4 x5 → VV l E X cX6_saying RX6 "saying" 6 r_X6_saying (some .int) (vpi (fun (r : Int32) (h' : AH) => h' = (mH b mi ma ml) ∧ post r)) (mH b mi ma ml) 0 0 6 [(0, va_rf (some (b 0))), (1, .int x1), (2, .int x2), (3, .int x3), (4, .int x4), (5, .int x5)] []) (x4 : Int32) (x5 : Int32) (hw : w_X6_saying_58 post k6 x1 x2 x3 mi ma ml x4 x5) : VV l E X cX6_saying RX6 "saying" 6 r_X6_saying (some .int) (vpi (fun (r : Int32) (h' : AH) => h' = (mH b mi ma ml) ∧ post r)) (mH b mi ma ml) 0 0 58 [(0, va_rf (some (b 0))), (1, .int x1), (2, .int x2), (3, .int x3), (4, .int x4), (5, .int x5)] [] := by
  obtain ⟨z_1, e_1⟩ : ∃ z9 : Int32, z9 = x5 + (nI 1) := ⟨_, rfl⟩
  replace hw := hw z_1 e_1
  refine v_iinc (q := 5) (v := z_1) (lv1 := [(5, .int z_1), (0, va_rf (some (b 0))), (1, .int x1), (2, .int x2), (3, .int x3), (4, .int x4)]) dX6_saying_58 rfl (by rw [e_1, ic_1]) (Nat.le_of_ble_eq_true rfl) rfl ?_
  refine v_goto (tgt := 6) dX6_saying_61 (by decide) ?_
  refine v_sub [1, 2, 3, 4, 5, 0] rfl ?_
  exact hk6 x4 z_1 hw
theorem b_X6_saying_6 {post : (Int32) → Prop}   {x1 : Int32} {x2 : Int32} {x3 : Int32} {mi : Nat → Int32} {ma : Nat → Nat → Int32} {ml : Nat → Nat → Int64}  (hb : mOK b)   : ∀ (n0 : Nat) (x4 : Int32) (x5 : Int32), w_X6_saying_6 post x1 x2 x3 mi ma ml n0 x4 x5 → VV l E X cX6_saying RX6 "saying" 6 r_X6_saying (some .int) (vpi (fun (r : Int32) (h' : AH) => h' = (mH b mi ma ml) ∧ post r)) (mH b mi ma ml) 0 0 6 [(0, va_rf (some (b 0))), (1, .int x1), (2, .int x2), (3, .int x3), (4, .int x4), (5, .int x5)] [] := by
  intro n0
  induction n0 with
  | zero =>
    intro x4 x5 hw
    exact hw.elim
  | succ n0 ih =>
    intro x4 x5 hw
    refine v_iload (q := 5) dX6_saying_6 rfl ?_
    refine v_aload_n (q := 0) dX6_saying_8 rfl rfl ?_
    refine vm_get hb 2 (Nat.le_of_ble_eq_true rfl) q1616 rfl dX6_saying_9 rfl ?_
    refine v_sipush dX6_saying_12 sp_987 ?_
    obtain ⟨hi_2, hw⟩ := hw
    refine v_iald dX6_saying_15 (mH_ar2 hb) hi_2 ?_
    obtain ⟨hw_5, hw_6⟩ := hw
    refine v_icmp_ge (tgt := 64) dX6_saying_16 (by decide) (fun c_3 => ?_) (fun c_4 => ?_)
    · have hw := hw_5 c_3
      refine v_iload (q := 4) dX6_saying_64 rfl ?_
      exact v_iret dX6_saying_66 rfl ⟨_, rfl, rfl, hw⟩
    · have hw := hw_6 c_4
      refine v_iload_n (q := 1) dX6_saying_19 rfl rfl ?_
      refine v_iload (q := 5) dX6_saying_20 rfl ?_
      refine v_ishr dX6_saying_22 ?_
      refine v_iconst dX6_saying_23 ic_1 ?_
      refine v_iand dX6_saying_24 ?_
      refine v_iconst dX6_saying_25 ic_1 ?_
      obtain ⟨hw_9, hw_10⟩ := hw
      refine v_icmp_ne (tgt := 58) dX6_saying_26 (by decide) (fun c_7 => ?_) (fun c_8 => ?_)
      · have hw := hw_9 c_7
        refine v_sub [0, 1, 2, 3, 4, 5] rfl ?_
        exact b_X6_saying_58 hb (fun q0 q1 z => ih q0 q1 z) x4 x5 hw
      · have hw := hw_10 c_8
        refine v_aload_n (q := 0) dX6_saying_29 rfl rfl ?_
        refine vm_get hb 2 (Nat.le_of_ble_eq_true rfl) q1616 rfl dX6_saying_30 rfl ?_
        refine v_sipush dX6_saying_33 sp_996 ?_
        refine v_bipush dX6_saying_36 bp_16 ?_
        refine v_iload (q := 5) dX6_saying_38 rfl ?_
        refine v_imul dX6_saying_40 ?_
        refine v_iadd dX6_saying_41 ?_
        refine v_iload_n (q := 2) dX6_saying_42 rfl rfl ?_
        refine v_iadd dX6_saying_43 ?_
        obtain ⟨hi_11, hw⟩ := hw
        refine v_iald dX6_saying_44 (mH_ar2 hb) hi_11 ?_
        refine v_iload_n (q := 3) dX6_saying_45 rfl rfl ?_
        obtain ⟨hw_14, hw_15⟩ := hw
        refine v_icmp_ne (tgt := 58) dX6_saying_46 (by decide) (fun c_12 => ?_) (fun c_13 => ?_)
        · have hw := hw_14 c_12
          refine v_sub [0, 1, 2, 3, 4, 5] rfl ?_
          exact b_X6_saying_58 hb (fun q0 q1 z => ih q0 q1 z) x4 x5 hw
        · have hw := hw_15 c_13
          refine v_iload (q := 4) dX6_saying_49 rfl ?_
          refine v_iconst dX6_saying_51 ic_1 ?_
          refine v_iload (q := 5) dX6_saying_52 rfl ?_
          refine v_ishl dX6_saying_54 ?_
          refine v_ior dX6_saying_55 ?_
          refine v_topi (fun z_16 e_16 => ?_)
          replace hw := hw z_16 e_16
          refine v_istore (lv1 := [(4, .int z_16), (0, va_rf (some (b 0))), (1, .int x1), (2, .int x2), (3, .int x3), (5, .int x5)]) dX6_saying_56 (Nat.le_of_ble_eq_true rfl) rfl ?_
          refine v_sub [1, 2, 3, 4, 0, 5] rfl ?_
          exact b_X6_saying_58 hb (fun q0 q1 z => ih q0 q1 z) z_16 x5 hw
theorem e_X6_saying {post : (Int32) → Prop}   {x1 : Int32} {x2 : Int32} {x3 : Int32} {mi : Nat → Int32} {ma : Nat → Nat → Int32} {ml : Nat → Nat → Int64} (hb : mOK b)  (hw : w_X6_saying post  x1 x2 x3 mi ma ml) : VV l E X cX6_saying RX6 "saying" 6 r_X6_saying (some .int) (vpi (fun (r : Int32) (h' : AH) => h' = (mH b mi ma ml) ∧ post r)) (mH b mi ma ml) 0 0 0 [(0, va_rf (some (b 0))), (1, .int x1), (2, .int x2), (3, .int x3)] [] := by
  refine v_iconst dX6_saying_0 ic_0 ?_
  refine v_istore (lv1 := [(4, .int (nI 0)), (0, va_rf (some (b 0))), (1, .int x1), (2, .int x2), (3, .int x3)]) dX6_saying_1 (Nat.le_of_ble_eq_true rfl) rfl ?_
  refine v_iconst dX6_saying_3 ic_0 ?_
  refine v_istore (lv1 := [(5, .int (nI 0)), (4, .int (nI 0)), (0, va_rf (some (b 0))), (1, .int x1), (2, .int x2), (3, .int x3)]) dX6_saying_4 (Nat.le_of_ble_eq_true rfl) rfl ?_
  obtain ⟨n_17, hw⟩ := hw
  refine v_sub [2, 3, 4, 5, 1, 0] rfl ?_
  exact b_X6_saying_6 hb n_17 (nI 0) (nI 0) hw
theorem met_X6_saying {post : (Int32) → Prop}   {x1 : Int32} {x2 : Int32} {x3 : Int32} {mi : Nat → Int32} {ma : Nat → Nat → Int32} {ml : Nat → Nat → Int64} (hb : mOK b)  (hw : w_X6_saying post  x1 x2 x3 mi ma ml) : Mt l E yX6_saying (ws_ yX6_saying cX6_saying 6 (some .int)) r_X6_saying [va_rf (some (b 0)), .int x1, .int x2, .int x3] (mH b mi ma ml) (vpi (fun (r : Int32) (h' : AH) => h' = (mH b mi ma ml) ∧ post r)) := v_entry (by decide +kernel) (Nat.le_of_ble_eq_true rfl) rfl (fun _ => e_X6_saying hb hw)
/-! X6_costBy -/
abbrev r_X6_costBy : Room := { frames := 1, cells := 0, slots := 0, locals := 25 }
theorem n_X6_costBy : vdn yX6_costBy 2 := ⟨by decide +kernel, by decide +kernel, by decide +kernel⟩
def w_X6_costBy_9 (post : (Int32) → Prop) (x1 : Int32) (x2 : Int32) (mi : Nat → Int32) (ma : Nat → Nat → Int32) (ml : Nat → Nat → Int64) : Nat → (Int32) → (Int32) → Prop
 | 0, _, _ => False
 | n0 + 1, x3, x4 =>
 (((nI 4) ≤ x4 → (post x3)) ∧ (¬ (nI 4) ≤ x4 → (w_X6_saying (fun (z_5 : Int32) => ((¬ z_5 = x1 → (vp_in z_5 256 ∧ (∀ z_11 : Int32, z_11 = (x3 + (ma 34 (z_5).toNatClampNeg)) → (∀ z_12 : Int32, z_12 = x4 + (nI 1) → (w_X6_costBy_9 post x1 x2 mi ma ml n0 z_11 z_12))))) ∧ (z_5 = x1 → (post (-1))))) x1 x2 x4 mi ma ml)))
def w_X6_costBy (post : (Int32) → Prop) (x1 : Int32) (x2 : Int32) (mi : Nat → Int32) (ma : Nat → Nat → Int32) (ml : Nat → Nat → Int64) : Prop :=
 (w_X6_weightOf (fun (z_13 : Int32) => (∃ n1 : Nat, (w_X6_costBy_9 post x1 x2 mi ma ml n1 z_13 (nI 0)))) x1 mi ma ml)
theorem b_X6_costBy_9 {post : (Int32) → Prop}   {x1 : Int32} {x2 : Int32} {mi : Nat → Int32} {ma : Nat → Nat → Int32} {ml : Nat → Nat → Int64}  (hb : mOK b)   : ∀ (n0 : Nat) (x3 : Int32) (x4 : Int32), w_X6_costBy_9 post x1 x2 mi ma ml n0 x3 x4 → VV l E X cX6_costBy RX6 "costBy" 6 r_X6_costBy (some .int) (vpi (fun (r : Int32) (h' : AH) => h' = (mH b mi ma ml) ∧ post r)) (mH b mi ma ml) 0 0 9 [(0, va_rf (some (b 0))), (1, .int x1), (2, .int x2), (3, .int x3), (4, .int x4)] [] := by
  intro n0
  induction n0 with
  | zero =>
    intro x3 x4 hw
    exact hw.elim
  | succ n0 ih =>
    intro x3 x4 hw
    refine v_iload (q := 4) dX6_costBy_9 rfl ?_
    refine v_iconst dX6_costBy_11 ic_4 ?_
    obtain ⟨hw_3, hw_4⟩ := hw
    refine v_icmp_ge (tgt := 49) dX6_costBy_12 (by decide) (fun c_1 => ?_) (fun c_2 => ?_)
    · have hw := hw_3 c_1
      refine v_iload_n (q := 3) dX6_costBy_49 rfl rfl ?_
      exact v_iret dX6_costBy_50 rfl ⟨_, rfl, rfl, hw⟩
    · have hw := hw_4 c_2
      refine v_aload_n (q := 0) dX6_costBy_15 rfl rfl ?_
      refine v_iload_n (q := 1) dX6_costBy_16 rfl rfl ?_
      refine v_iload_n (q := 2) dX6_costBy_17 rfl rfl ?_
      refine v_iload (q := 4) dX6_costBy_18 rfl ?_
      refine v_callV q2114 q2116 qs100 q113 q2117 (ci := 7) rfl (mH_obj hb) n_X6_saying ⟨Nat.le_of_ble_eq_true rfl, Nat.le_of_ble_eq_true rfl⟩ [.int x1, .int x2, .int x4] [] (met_X6_saying hb hw) rfl (Nat.zero_le _) ⟨Nat.le_refl _, Nat.le_refl _⟩ dX6_costBy_20 rfl (v_ki (fun z_5 h1 hv => ?_))
      clear hw
      obtain ⟨e9, hw⟩ := hv
      refine v_heap e9 ?_
      clear e9
      refine v_istore (lv1 := [(5, .int z_5), (0, va_rf (some (b 0))), (1, .int x1), (2, .int x2), (3, .int x3), (4, .int x4)]) dX6_costBy_23 (Nat.le_of_ble_eq_true rfl) rfl ?_
      refine v_iload (q := 0) dX6_costBy_25 rfl ?_
      refine v_iload_n (q := 2) dX6_costBy_27 rfl rfl ?_
      obtain ⟨hw_8, hw_9⟩ := hw
      refine v_icmp_ne (tgt := 33) dX6_costBy_28 (by decide) (fun c_6 => ?_) (fun c_7 => ?_)
      · have hw := hw_8 c_6
        refine v_iload_n (q := 4) dX6_costBy_33 rfl rfl ?_
        refine v_aload_n (q := 1) dX6_costBy_34 rfl rfl ?_
        refine vm_get hb 34 (Nat.le_of_ble_eq_true rfl) q1648 rfl dX6_costBy_35 rfl ?_
        refine v_iload (q := 0) dX6_costBy_38 rfl ?_
        obtain ⟨hi_10, hw⟩ := hw
        refine v_iald dX6_costBy_40 (mH_ar34 hb) hi_10 ?_
        refine v_iadd dX6_costBy_41 ?_
        refine v_topi (fun z_11 e_11 => ?_)
        replace hw := hw z_11 e_11
        refine v_istore_n (lv1 := [(3, .int z_11), (5, .int z_5), (0, va_rf (some (b 0))), (1, .int x1), (2, .int x2), (4, .int x4)]) dX6_costBy_42 rfl (Nat.le_of_ble_eq_true rfl) rfl ?_
        obtain ⟨z_12, e_12⟩ : ∃ z9 : Int32, z9 = x4 + (nI 1) := ⟨_, rfl⟩
        replace hw := hw z_12 e_12
        refine v_iinc (q := 5) (v := z_12) (lv1 := [(4, .int z_12), (3, .int z_11), (5, .int z_5), (0, va_rf (some (b 0))), (1, .int x1), (2, .int x2)]) dX6_costBy_43 rfl (by rw [e_12, ic_1]) (Nat.le_of_ble_eq_true rfl) rfl ?_
        refine v_goto (tgt := 9) dX6_costBy_46 (by decide) ?_
        refine v_sub [3, 4, 5, 1, 0] rfl ?_
        exact ih z_11 z_12 hw
      · have hw := hw_9 c_7
        refine v_iconst dX6_costBy_31 ic_m1 ?_
        exact v_iret dX6_costBy_32 rfl ⟨_, rfl, rfl, hw⟩
theorem e_X6_costBy {post : (Int32) → Prop}   {x1 : Int32} {x2 : Int32} {mi : Nat → Int32} {ma : Nat → Nat → Int32} {ml : Nat → Nat → Int64} (hb : mOK b)  (hw : w_X6_costBy post  x1 x2 mi ma ml) : VV l E X cX6_costBy RX6 "costBy" 6 r_X6_costBy (some .int) (vpi (fun (r : Int32) (h' : AH) => h' = (mH b mi ma ml) ∧ post r)) (mH b mi ma ml) 0 0 0 [(0, va_rf (some (b 0))), (1, .int x1), (2, .int x2)] [] := by
  refine v_aload_n (q := 0) dX6_costBy_0 rfl rfl ?_
  refine v_iload_n (q := 1) dX6_costBy_1 rfl rfl ?_
  refine v_callV q2110 q2112 qs99 q113 q2113 (ci := 7) rfl (mH_obj hb) n_X6_weightOf ⟨Nat.le_of_ble_eq_true rfl, Nat.le_of_ble_eq_true rfl⟩ [.int x1] [] (met_X6_weightOf hb hw) rfl (Nat.zero_le _) ⟨Nat.le_refl _, Nat.le_refl _⟩ dX6_costBy_2 rfl (v_ki (fun z_13 h1 hv => ?_))
  clear hw
  obtain ⟨e9, hw⟩ := hv
  refine v_heap e9 ?_
  clear e9
  refine v_istore_n (lv1 := [(3, .int z_13), (0, va_rf (some (b 0))), (1, .int x1), (2, .int x2)]) dX6_costBy_5 rfl (Nat.le_of_ble_eq_true rfl) rfl ?_
  refine v_iconst dX6_costBy_6 ic_0 ?_
  refine v_istore (lv1 := [(4, .int (nI 0)), (3, .int z_13), (0, va_rf (some (b 0))), (1, .int x1), (2, .int x2)]) dX6_costBy_7 (Nat.le_of_ble_eq_true rfl) rfl ?_
  obtain ⟨n_14, hw⟩ := hw
  refine v_sub [2, 3, 4, 1, 0] rfl ?_
  exact b_X6_costBy_9 hb n_14 z_13 (nI 0) hw
theorem met_X6_costBy {post : (Int32) → Prop}   {x1 : Int32} {x2 : Int32} {mi : Nat → Int32} {ma : Nat → Nat → Int32} {ml : Nat → Nat → Int64} (hb : mOK b)  (hw : w_X6_costBy post  x1 x2 mi ma ml) : Mt l E yX6_costBy (ws_ yX6_costBy cX6_costBy 6 (some .int)) r_X6_costBy [va_rf (some (b 0)), .int x1, .int x2] (mH b mi ma ml) (vpi (fun (r : Int32) (h' : AH) => h' = (mH b mi ma ml) ∧ post r)) := v_entry (by decide +kernel) (Nat.le_of_ble_eq_true rfl) rfl (fun _ => e_X6_costBy hb hw)
/-! X6_ask -/
abbrev r_X6_ask : Room := { frames := 2, cells := 0, slots := 0, locals := 50 }
theorem n_X6_ask : vdn yX6_ask 2 := ⟨by decide +kernel, by decide +kernel, by decide +kernel⟩
def w_X6_ask_37 (post : (Int32) → (Nat → Int32) → (Nat → Nat → Int32) → Prop) (x1 : Int32) (x2 : Int32) (ml : Nat → Nat → Int64) (mi : Nat → Int32) (ma : Nat → Nat → Int32) : Prop :=
 (w_X6_no (fun (z_1 : Int32) (ma_2 : Nat → Nat → Int32) => (post z_1 mi ma_2)) (-2) mi ma ml)
def w_X6_ask_140 (post : (Int32) → (Nat → Int32) → (Nat → Nat → Int32) → Prop) (k49 : (Int32) → (Int32) → (Nat → Int32) → (Nat → Nat → Int32) → Prop) (k85 : (Int32) → (Int32) → (Int32) → (Nat → Int32) → (Nat → Nat → Int32) → Prop) (x1 : Int32) (x2 : Int32) (ml : Nat → Nat → Int64) (x3 : Int32) (x4 : Int32) (x5 : Int32) (mi : Nat → Int32) (ma : Nat → Nat → Int32) : Prop :=
 (∀ z_3 : Int32, z_3 = x5 + (nI 1) → (k85 x3 x4 z_3 mi ma))
def w_X6_ask_128 (post : (Int32) → (Nat → Int32) → (Nat → Nat → Int32) → Prop) (k49 : (Int32) → (Int32) → (Nat → Int32) → (Nat → Nat → Int32) → Prop) (k85 : (Int32) → (Int32) → (Int32) → (Nat → Int32) → (Nat → Nat → Int32) → Prop) (x1 : Int32) (x2 : Int32) (ml : Nat → Nat → Int64) (x4 : Int32) (x5 : Int32) (x6 : Int32) (mi : Nat → Int32) (ma : Nat → Nat → Int32) : Prop :=
 (vp_in x4 256 ∧ ∀ ma_5 : Nat → Nat → Int32, ma_5 = mup ma 34 (x4).toNatClampNeg x6 → (w_X6_ask_140 post k49 k85 x1 x2 ml x5 x4 x5 mi ma_5))
def w_X6_ask_146 (post : (Int32) → (Nat → Int32) → (Nat → Nat → Int32) → Prop) (k49 : (Int32) → (Int32) → (Nat → Int32) → (Nat → Nat → Int32) → Prop) (x1 : Int32) (x2 : Int32) (ml : Nat → Nat → Int64) (x3 : Int32) (x4 : Int32) (mi : Nat → Int32) (ma : Nat → Nat → Int32) : Prop :=
 (∀ z_6 : Int32, z_6 = x4 + (nI 1) → (k49 x3 z_6 mi ma))
def w_X6_ask_85 (post : (Int32) → (Nat → Int32) → (Nat → Nat → Int32) → Prop) (k49 : (Int32) → (Int32) → (Nat → Int32) → (Nat → Nat → Int32) → Prop) (x1 : Int32) (x2 : Int32) (ml : Nat → Nat → Int64) : Nat → (Int32) → (Int32) → (Int32) → (Nat → Int32) → (Nat → Nat → Int32) → Prop
 | 0, _, _, _, _, _ => False
 | n0 + 1, x3, x4, x5, mi, ma =>
 (((nI 16) ≤ x5 → (w_X6_ask_146 post k49 x1 x2 ml x3 x4 mi ma)) ∧ (¬ (nI 16) ≤ x5 → (w_X6_costBy (fun (z_11 : Int32) => ((z_11 = (-1) → (w_X6_ask_140 post k49 (fun (q0 : Int32) (q1 : Int32) (q2 : Int32) (q3 : Nat → Int32) (q4 : Nat → Nat → Int32) => w_X6_ask_85 post k49 x1 x2 ml n0 q0 q1 q2 q3 q4) x1 x2 ml x3 x4 x5 mi ma)) ∧ (¬ z_11 = (-1) → ((x3 = (-1) → (w_X6_ask_128 post k49 (fun (q0 : Int32) (q1 : Int32) (q2 : Int32) (q3 : Nat → Int32) (q4 : Nat → Nat → Int32) => w_X6_ask_85 post k49 x1 x2 ml n0 q0 q1 q2 q3 q4) x1 x2 ml x4 x5 z_11 mi ma)) ∧ (¬ x3 = (-1) → (vp_in x4 256 ∧ ((z_11 < (ma 34 (x4).toNatClampNeg) → (w_X6_ask_128 post k49 (fun (q0 : Int32) (q1 : Int32) (q2 : Int32) (q3 : Nat → Int32) (q4 : Nat → Nat → Int32) => w_X6_ask_85 post k49 x1 x2 ml n0 q0 q1 q2 q3 q4) x1 x2 ml x4 x5 z_11 mi ma)) ∧ (¬ z_11 < (ma 34 (x4).toNatClampNeg) → (w_X6_ask_140 post k49 (fun (q0 : Int32) (q1 : Int32) (q2 : Int32) (q3 : Nat → Int32) (q4 : Nat → Nat → Int32) => w_X6_ask_85 post k49 x1 x2 ml n0 q0 q1 q2 q3 q4) x1 x2 ml x3 x4 x5 mi ma))))))))) x4 x5 mi ma ml)))
def w_X6_ask_49 (post : (Int32) → (Nat → Int32) → (Nat → Nat → Int32) → Prop) (x1 : Int32) (x2 : Int32) (ml : Nat → Nat → Int64) : Nat → (Int32) → (Int32) → (Nat → Int32) → (Nat → Nat → Int32) → Prop
 | 0, _, _, _, _ => False
 | n0 + 1, x3, x4, mi, ma =>
 ((x1 < x4 → ((¬ x2 = 0 → (post x3 mi ma)) ∧ (x2 = 0 → (vp_in x1 256 ∧ (post (ma 34 (x1).toNatClampNeg) mi ma))))) ∧ (¬ x1 < x4 → (vp_in x4 256 ∧ ∀ ma_35 : Nat → Nat → Int32, ma_35 = mup ma 34 (x4).toNatClampNeg (nI 0) → ((¬ (x4 &&& (x1 ^^^ (-1))) = 0 → (w_X6_ask_146 post (fun (q0 : Int32) (q1 : Int32) (q2 : Nat → Int32) (q3 : Nat → Nat → Int32) => w_X6_ask_49 post x1 x2 ml n0 q0 q1 q2 q3) x1 x2 ml (-1) x4 mi ma_35)) ∧ ((x4 &&& (x1 ^^^ (-1))) = 0 → ((¬ x4 = 0 → (∃ n1 : Nat, (w_X6_ask_85 post (fun (q0 : Int32) (q1 : Int32) (q2 : Nat → Int32) (q3 : Nat → Nat → Int32) => w_X6_ask_49 post x1 x2 ml n0 q0 q1 q2 q3) x1 x2 ml n1 (-1) x4 (nI 0) mi ma_35))) ∧ (x4 = 0 → (w_X6_ask_146 post (fun (q0 : Int32) (q1 : Int32) (q2 : Nat → Int32) (q3 : Nat → Nat → Int32) => w_X6_ask_49 post x1 x2 ml n0 q0 q1 q2 q3) x1 x2 ml (-1) x4 mi ma_35))))))))
def w_X6_ask (post : (Int32) → (Nat → Int32) → (Nat → Nat → Int32) → Prop) (x1 : Int32) (x2 : Int32) (mi : Nat → Int32) (ma : Nat → Nat → Int32) (ml : Nat → Nat → Int64) : Prop :=
 (∀ mi_45 : Nat → Int32, mi_45 = upd mi 0 (nI 0) → (w_X6_within (fun (z_46 : Int32) => ((z_46 = 0 → (w_X6_ask_37 post x1 x2 ml mi_45 ma)) ∧ (¬ z_46 = 0 → (vp_in (nI 987) 3372 ∧ (w_X6_within (fun (z_52 : Int32) => ((¬ z_52 = 0 → (∃ n1 : Nat, (w_X6_ask_49 post x1 x2 ml n1 (-1) (nI 0) mi_45 ma))) ∧ (z_52 = 0 → (w_X6_ask_37 post x1 x2 ml mi_45 ma)))) ((x1).toInt64) (lN 0) (((((nI 1) <<< ((ma 2 ((nI 987)).toNatClampNeg) &&& 31)) - (nI 1))).toInt64)))))) ((x2).toInt64) (lN 0) (lN 1)))
theorem b_X6_ask_37 {post : (Int32) → (Nat → Int32) → (Nat → Nat → Int32) → Prop}   {x1 : Int32} {x2 : Int32} {ml : Nat → Nat → Int64}  (hb : mOK b)   (mi : Nat → Int32) (ma : Nat → Nat → Int32) (hw : w_X6_ask_37 post x1 x2 ml mi ma) : VV l E X cX6_ask RX6 "ask" 7 r_X6_ask (some .int) (vpi (fun (r : Int32) (h' : AH) => ∃ (mi' : Nat → Int32) (ma' : Nat → Nat → Int32), h' = (mH b mi' ma' ml) ∧ post r mi' ma')) (mH b mi ma ml) 0 0 37 [(0, va_rf (some (b 0))), (1, .int x1), (2, .int x2)] [] := by
  refine v_aload_n (q := 0) dX6_ask_37 rfl rfl ?_
  refine v_bipush dX6_ask_38 bp_m2 ?_
  refine v_callV q1737 q1739 qs53 q113 q1740 (ci := 7) rfl (mH_obj hb) n_X6_no ⟨Nat.le_of_ble_eq_true rfl, Nat.le_of_ble_eq_true rfl⟩ [.int (-2)] [] (met_X6_no hb hw) rfl (Nat.zero_le _) ⟨Nat.le_refl _, Nat.le_refl _⟩ dX6_ask_40 rfl (v_ki (fun z_1 h1 hv => ?_))
  clear hw
  obtain ⟨ma_2, rfl, hw⟩ := hv
  exact v_iret dX6_ask_43 rfl ⟨_, rfl, _, _, rfl, hw⟩
theorem b_X6_ask_140 {post : (Int32) → (Nat → Int32) → (Nat → Nat → Int32) → Prop}   {x1 : Int32} {x2 : Int32} {ml : Nat → Nat → Int64} {k49 : (Int32) → (Int32) → (Nat → Int32) → (Nat → Nat → Int32) → Prop} {k85 : (Int32) → (Int32) → (Int32) → (Nat → Int32) → (Nat → Nat → Int32) → Prop} (hb : mOK b)  (hk49 : ∀ (x3 : Int32) (x4 : Int32) (mi : Nat → Int32) (ma : Nat → Nat → Int32), k49 x3 x4 mi ma → VV l E X cX6_ask RX6 "ask" 7 r_X6_ask (some .int) (vpi (fun (r : Int32) (h' : AH) => ∃ (mi' : Nat → Int32) (ma' : Nat → Nat → Int32), h' = (mH b mi' ma' ml) ∧ post r mi' ma')) (mH b mi ma ml) 0 0 49 [(0, va_rf (some (b 0))), (1, .int x1), (2, .int x2), (3, .int x3), (4, .int x4)] []) (hk85 : ∀ (x3 : Int32) (x4 : Int32) (x5 : Int32) (mi : Nat → Int32) (ma : Nat → Nat → Int32), k85 x3 x4 x5 mi ma → VV l E X cX6_ask RX6 "ask" 7 r_X6_ask (some .int) (vpi (fun (r : Int32) (h' : AH) => ∃ (mi' : Nat → Int32) (ma' : Nat → Nat → Int32), h' = (mH b mi' ma' ml) ∧ post r mi' ma')) (mH b mi ma ml) 0 0 85 [(0, va_rf (some (b 0))), (1, .int x1), (2, .int x2), (3, .int x3), (4, .int x4), (5, .int x5)] []) (x3 : Int32) (x4 : Int32) (x5 : Int32) (mi : Nat → Int32) (ma : Nat → Nat → Int32) (hw : w_X6_ask_140 post k49 k85 x1 x2 ml x3 x4 x5 mi ma) : VV l E X cX6_ask RX6 "ask" 7 r_X6_ask (some .int) (vpi (fun (r : Int32) (h' : AH) => ∃ (mi' : Nat → Int32) (ma' : Nat → Nat → Int32), h' = (mH b mi' ma' ml) ∧ post r mi' ma')) (mH b mi ma ml) 0 0 140 [(0, va_rf (some (b 0))), (1, .int x1), (2, .int x2), (3, .int x3), (4, .int x4), (5, .int x5)] [] := by
  obtain ⟨z_3, e_3⟩ : ∃ z9 : Int32, z9 = x5 + (nI 1) := ⟨_, rfl⟩
  replace hw := hw z_3 e_3
  refine v_iinc (q := 5) (v := z_3) (lv1 := [(5, .int z_3), (0, va_rf (some (b 0))), (1, .int x1), (2, .int x2), (3, .int x3), (4, .int x4)]) dX6_ask_140 rfl (by rw [e_3, ic_1]) (Nat.le_of_ble_eq_true rfl) rfl ?_
  refine v_goto (tgt := 85) dX6_ask_143 (by decide) ?_
  refine v_sub [1, 2, 3, 4, 5, 0] rfl ?_
  exact hk85 x3 x4 z_3 mi ma hw
theorem b_X6_ask_128 {post : (Int32) → (Nat → Int32) → (Nat → Nat → Int32) → Prop}   {x1 : Int32} {x2 : Int32} {ml : Nat → Nat → Int64} {k49 : (Int32) → (Int32) → (Nat → Int32) → (Nat → Nat → Int32) → Prop} {k85 : (Int32) → (Int32) → (Int32) → (Nat → Int32) → (Nat → Nat → Int32) → Prop} (hb : mOK b)  (hk49 : ∀ (x3 : Int32) (x4 : Int32) (mi : Nat → Int32) (ma : Nat → Nat → Int32), k49 x3 x4 mi ma → VV l E X cX6_ask RX6 "ask" 7 r_X6_ask (some .int) (vpi (fun (r : Int32) (h' : AH) => ∃ (mi' : Nat → Int32) (ma' : Nat → Nat → Int32), h' = (mH b mi' ma' ml) ∧ post r mi' ma')) (mH b mi ma ml) 0 0 49 [(0, va_rf (some (b 0))), (1, .int x1), (2, .int x2), (3, .int x3), (4, .int x4)] []) (hk85 : ∀ (x3 : Int32) (x4 : Int32) (x5 : Int32) (mi : Nat → Int32) (ma : Nat → Nat → Int32), k85 x3 x4 x5 mi ma → VV l E X cX6_ask RX6 "ask" 7 r_X6_ask (some .int) (vpi (fun (r : Int32) (h' : AH) => ∃ (mi' : Nat → Int32) (ma' : Nat → Nat → Int32), h' = (mH b mi' ma' ml) ∧ post r mi' ma')) (mH b mi ma ml) 0 0 85 [(0, va_rf (some (b 0))), (1, .int x1), (2, .int x2), (3, .int x3), (4, .int x4), (5, .int x5)] []) (x4 : Int32) (x5 : Int32) (x6 : Int32) (mi : Nat → Int32) (ma : Nat → Nat → Int32) (hw : w_X6_ask_128 post k49 k85 x1 x2 ml x4 x5 x6 mi ma) : VV l E X cX6_ask RX6 "ask" 7 r_X6_ask (some .int) (vpi (fun (r : Int32) (h' : AH) => ∃ (mi' : Nat → Int32) (ma' : Nat → Nat → Int32), h' = (mH b mi' ma' ml) ∧ post r mi' ma')) (mH b mi ma ml) 0 0 128 [(0, va_rf (some (b 0))), (1, .int x1), (2, .int x2), (4, .int x4), (5, .int x5), (6, .int x6)] [] := by
  refine v_aload_n (q := 0) dX6_ask_128 rfl rfl ?_
  refine vm_get hb 34 (Nat.le_of_ble_eq_true rfl) q1648 rfl dX6_ask_129 rfl ?_
  refine v_iload (q := 3) dX6_ask_132 rfl ?_
  refine v_iload (q := 5) dX6_ask_134 rfl ?_
  obtain ⟨hi_4, hw⟩ := hw
  obtain ⟨ma_5, ema_5⟩ : ∃ z9 : Nat → Nat → Int32, z9 = mup ma 34 (x4).toNatClampNeg x6 := ⟨_, rfl⟩
  replace hw := hw ma_5 ema_5
  refine v_iast dX6_ask_136 (mH_ar34 hb) hi_4 ?_
  refine v_heap (h' := mH b mi ma_5 ml) (by rw [ema_5]; exact mH_st34 hb) ?_
  refine v_iload (q := 4) dX6_ask_137 rfl ?_
  refine v_istore_n (lv1 := [(3, .int x5), (0, va_rf (some (b 0))), (1, .int x1), (2, .int x2), (4, .int x4), (5, .int x5), (6, .int x6)]) dX6_ask_139 rfl (Nat.le_of_ble_eq_true rfl) rfl ?_
  refine v_sub [1, 2, 3, 0, 4, 5] rfl ?_
  exact b_X6_ask_140 hb hk49 hk85 x5 x4 x5 mi ma_5 hw
theorem b_X6_ask_146 {post : (Int32) → (Nat → Int32) → (Nat → Nat → Int32) → Prop}   {x1 : Int32} {x2 : Int32} {ml : Nat → Nat → Int64} {k49 : (Int32) → (Int32) → (Nat → Int32) → (Nat → Nat → Int32) → Prop} (hb : mOK b)  (hk49 : ∀ (x3 : Int32) (x4 : Int32) (mi : Nat → Int32) (ma : Nat → Nat → Int32), k49 x3 x4 mi ma → VV l E X cX6_ask RX6 "ask" 7 r_X6_ask (some .int) (vpi (fun (r : Int32) (h' : AH) => ∃ (mi' : Nat → Int32) (ma' : Nat → Nat → Int32), h' = (mH b mi' ma' ml) ∧ post r mi' ma')) (mH b mi ma ml) 0 0 49 [(0, va_rf (some (b 0))), (1, .int x1), (2, .int x2), (3, .int x3), (4, .int x4)] []) (x3 : Int32) (x4 : Int32) (mi : Nat → Int32) (ma : Nat → Nat → Int32) (hw : w_X6_ask_146 post k49 x1 x2 ml x3 x4 mi ma) : VV l E X cX6_ask RX6 "ask" 7 r_X6_ask (some .int) (vpi (fun (r : Int32) (h' : AH) => ∃ (mi' : Nat → Int32) (ma' : Nat → Nat → Int32), h' = (mH b mi' ma' ml) ∧ post r mi' ma')) (mH b mi ma ml) 0 0 146 [(0, va_rf (some (b 0))), (1, .int x1), (2, .int x2), (3, .int x3), (4, .int x4)] [] := by
  obtain ⟨z_6, e_6⟩ : ∃ z9 : Int32, z9 = x4 + (nI 1) := ⟨_, rfl⟩
  replace hw := hw z_6 e_6
  refine v_iinc (q := 4) (v := z_6) (lv1 := [(4, .int z_6), (0, va_rf (some (b 0))), (1, .int x1), (2, .int x2), (3, .int x3)]) dX6_ask_146 rfl (by rw [e_6, ic_1]) (Nat.le_of_ble_eq_true rfl) rfl ?_
  refine v_goto (tgt := 49) dX6_ask_149 (by decide) ?_
  refine v_sub [1, 2, 3, 4, 0] rfl ?_
  exact hk49 x3 z_6 mi ma hw
theorem b_X6_ask_85 {post : (Int32) → (Nat → Int32) → (Nat → Nat → Int32) → Prop}   {x1 : Int32} {x2 : Int32} {ml : Nat → Nat → Int64} {k49 : (Int32) → (Int32) → (Nat → Int32) → (Nat → Nat → Int32) → Prop} (hb : mOK b)  (hk49 : ∀ (x3 : Int32) (x4 : Int32) (mi : Nat → Int32) (ma : Nat → Nat → Int32), k49 x3 x4 mi ma → VV l E X cX6_ask RX6 "ask" 7 r_X6_ask (some .int) (vpi (fun (r : Int32) (h' : AH) => ∃ (mi' : Nat → Int32) (ma' : Nat → Nat → Int32), h' = (mH b mi' ma' ml) ∧ post r mi' ma')) (mH b mi ma ml) 0 0 49 [(0, va_rf (some (b 0))), (1, .int x1), (2, .int x2), (3, .int x3), (4, .int x4)] []) : ∀ (n0 : Nat) (x3 : Int32) (x4 : Int32) (x5 : Int32) (mi : Nat → Int32) (ma : Nat → Nat → Int32), w_X6_ask_85 post k49 x1 x2 ml n0 x3 x4 x5 mi ma → VV l E X cX6_ask RX6 "ask" 7 r_X6_ask (some .int) (vpi (fun (r : Int32) (h' : AH) => ∃ (mi' : Nat → Int32) (ma' : Nat → Nat → Int32), h' = (mH b mi' ma' ml) ∧ post r mi' ma')) (mH b mi ma ml) 0 0 85 [(0, va_rf (some (b 0))), (1, .int x1), (2, .int x2), (3, .int x3), (4, .int x4), (5, .int x5)] [] := by
  intro n0
  induction n0 with
  | zero =>
    intro x3 x4 x5 mi ma hw
    exact hw.elim
  | succ n0 ih =>
    intro x3 x4 x5 mi ma hw
    refine v_iload (q := 5) dX6_ask_85 rfl ?_
    refine v_bipush dX6_ask_87 bp_16 ?_
    obtain ⟨hw_9, hw_10⟩ := hw
    refine v_icmp_ge (tgt := 146) dX6_ask_89 (by decide) (fun c_7 => ?_) (fun c_8 => ?_)
    · have hw := hw_9 c_7
      refine v_sub [0, 1, 2, 3, 4] rfl ?_
      exact b_X6_ask_146 hb hk49 x3 x4 mi ma hw
    · have hw := hw_10 c_8
      refine v_aload_n (q := 0) dX6_ask_92 rfl rfl ?_
      refine v_iload (q := 4) dX6_ask_93 rfl ?_
      refine v_iload (q := 5) dX6_ask_95 rfl ?_
      refine v_callV q2106 q2108 qs98 q113 q2109 (ci := 7) rfl (mH_obj hb) n_X6_costBy ⟨Nat.le_of_ble_eq_true rfl, Nat.le_of_ble_eq_true rfl⟩ [.int x4, .int x5] [] (met_X6_costBy hb hw) rfl (Nat.zero_le _) ⟨Nat.le_refl _, Nat.le_refl _⟩ dX6_ask_97 rfl (v_ki (fun z_11 h1 hv => ?_))
      clear hw
      obtain ⟨e9, hw⟩ := hv
      refine v_heap e9 ?_
      clear e9
      refine v_istore (lv1 := [(6, .int z_11), (0, va_rf (some (b 0))), (1, .int x1), (2, .int x2), (3, .int x3), (4, .int x4), (5, .int x5)]) dX6_ask_100 (Nat.le_of_ble_eq_true rfl) rfl ?_
      refine v_iload (q := 0) dX6_ask_102 rfl ?_
      refine v_iconst dX6_ask_104 ic_m1 ?_
      obtain ⟨hw_14, hw_15⟩ := hw
      refine v_icmp_eq (tgt := 140) dX6_ask_105 (by decide) (fun c_12 => ?_) (fun c_13 => ?_)
      · have hw := hw_14 c_12
        refine v_sub [1, 2, 3, 4, 5, 6] rfl ?_
        exact b_X6_ask_140 hb hk49 (fun q0 q1 q2 q3 q4 z => ih q0 q1 q2 q3 q4 z) x3 x4 x5 mi ma hw
      · have hw := hw_15 c_13
        refine v_iload_n (q := 4) dX6_ask_108 rfl rfl ?_
        refine v_iconst dX6_ask_109 ic_m1 ?_
        obtain ⟨hw_18, hw_19⟩ := hw
        refine v_icmp_eq (tgt := 128) dX6_ask_110 (by decide) (fun c_16 => ?_) (fun c_17 => ?_)
        · have hw := hw_18 c_16
          refine v_sub [1, 2, 3, 5, 6, 0] rfl ?_
          exact b_X6_ask_128 hb hk49 (fun q0 q1 q2 q3 q4 z => ih q0 q1 q2 q3 q4 z) x4 x5 z_11 mi ma hw
        · have hw := hw_19 c_17
          refine v_iload (q := 0) dX6_ask_113 rfl ?_
          refine v_aload_n (q := 1) dX6_ask_115 rfl rfl ?_
          refine vm_get hb 34 (Nat.le_of_ble_eq_true rfl) q1648 rfl dX6_ask_116 rfl ?_
          refine v_iload (q := 5) dX6_ask_119 rfl ?_
          obtain ⟨hi_20, hw⟩ := hw
          refine v_iald dX6_ask_121 (mH_ar34 hb) hi_20 ?_
          obtain ⟨hw_23, hw_24⟩ := hw
          refine v_icmp_lt (tgt := 128) dX6_ask_122 (by decide) (fun c_21 => ?_) (fun c_22 => ?_)
          · have hw := hw_23 c_21
            refine v_sub [1, 2, 3, 5, 6, 0] rfl ?_
            exact b_X6_ask_128 hb hk49 (fun q0 q1 q2 q3 q4 z => ih q0 q1 q2 q3 q4 z) x4 x5 z_11 mi ma hw
          · have hw := hw_24 c_22
            refine v_goto (tgt := 140) dX6_ask_125 (by decide) ?_
            refine v_sub [1, 2, 3, 4, 5, 6] rfl ?_
            exact b_X6_ask_140 hb hk49 (fun q0 q1 q2 q3 q4 z => ih q0 q1 q2 q3 q4 z) x3 x4 x5 mi ma hw
theorem b_X6_ask_49 {post : (Int32) → (Nat → Int32) → (Nat → Nat → Int32) → Prop}   {x1 : Int32} {x2 : Int32} {ml : Nat → Nat → Int64}  (hb : mOK b)   : ∀ (n0 : Nat) (x3 : Int32) (x4 : Int32) (mi : Nat → Int32) (ma : Nat → Nat → Int32), w_X6_ask_49 post x1 x2 ml n0 x3 x4 mi ma → VV l E X cX6_ask RX6 "ask" 7 r_X6_ask (some .int) (vpi (fun (r : Int32) (h' : AH) => ∃ (mi' : Nat → Int32) (ma' : Nat → Nat → Int32), h' = (mH b mi' ma' ml) ∧ post r mi' ma')) (mH b mi ma ml) 0 0 49 [(0, va_rf (some (b 0))), (1, .int x1), (2, .int x2), (3, .int x3), (4, .int x4)] [] := by
  intro n0
  induction n0 with
  | zero =>
    intro x3 x4 mi ma hw
    exact hw.elim
  | succ n0 ih =>
    intro x3 x4 mi ma hw
    refine v_iload (q := 4) dX6_ask_49 rfl ?_
    refine v_iload_n (q := 1) dX6_ask_51 rfl rfl ?_
    obtain ⟨hw_27, hw_28⟩ := hw
    refine v_icmp_gt (tgt := 152) dX6_ask_52 (by decide) (fun c_25 => ?_) (fun c_26 => ?_)
    · have hw := hw_27 c_25
      refine v_iload_n (q := 2) dX6_ask_152 rfl rfl ?_
      obtain ⟨hw_31, hw_32⟩ := hw
      refine v_if_ne (tgt := 165) dX6_ask_153 (by decide) (fun c_29 => ?_) (fun c_30 => ?_)
      · have hw := hw_31 c_29
        refine v_iload_n (q := 3) dX6_ask_165 rfl rfl ?_
        exact v_iret dX6_ask_166 rfl ⟨_, rfl, _, _, rfl, hw⟩
      · have hw := hw_32 c_30
        refine v_aload_n (q := 0) dX6_ask_156 rfl rfl ?_
        refine vm_get hb 34 (Nat.le_of_ble_eq_true rfl) q1648 rfl dX6_ask_157 rfl ?_
        refine v_iload_n (q := 1) dX6_ask_160 rfl rfl ?_
        obtain ⟨hi_33, hw⟩ := hw
        refine v_iald dX6_ask_161 (mH_ar34 hb) hi_33 ?_
        refine v_goto (tgt := 166) dX6_ask_162 (by decide) ?_
        exact v_iret dX6_ask_166 rfl ⟨_, rfl, _, _, rfl, hw⟩
    · have hw := hw_28 c_26
      refine v_aload_n (q := 0) dX6_ask_55 rfl rfl ?_
      refine vm_get hb 34 (Nat.le_of_ble_eq_true rfl) q1648 rfl dX6_ask_56 rfl ?_
      refine v_iload (q := 4) dX6_ask_59 rfl ?_
      refine v_iconst dX6_ask_61 ic_0 ?_
      obtain ⟨hi_34, hw⟩ := hw
      obtain ⟨ma_35, ema_35⟩ : ∃ z9 : Nat → Nat → Int32, z9 = mup ma 34 (x4).toNatClampNeg (nI 0) := ⟨_, rfl⟩
      replace hw := hw ma_35 ema_35
      refine v_iast dX6_ask_62 (mH_ar34 hb) hi_34 ?_
      refine v_heap (h' := mH b mi ma_35 ml) (by rw [ema_35]; exact mH_st34 hb) ?_
      refine v_iconst dX6_ask_63 ic_m1 ?_
      refine v_istore_n (lv1 := [(3, .int (-1)), (0, va_rf (some (b 0))), (1, .int x1), (2, .int x2), (4, .int x4)]) dX6_ask_64 rfl (Nat.le_of_ble_eq_true rfl) rfl ?_
      refine v_iload (q := 4) dX6_ask_65 rfl ?_
      refine v_iload_n (q := 2) dX6_ask_67 rfl rfl ?_
      refine v_iconst dX6_ask_68 ic_m1 ?_
      refine v_ixor dX6_ask_69 ?_
      refine v_iand dX6_ask_70 ?_
      obtain ⟨hw_38, hw_39⟩ := hw
      refine v_if_ne (tgt := 146) dX6_ask_71 (by decide) (fun c_36 => ?_) (fun c_37 => ?_)
      · have hw := hw_38 c_36
        refine v_sub [1, 2, 3, 0, 4] rfl ?_
        exact b_X6_ask_146 hb (fun q0 q1 q2 q3 z => ih q0 q1 q2 q3 z) (-1) x4 mi ma_35 hw
      · have hw := hw_39 c_37
        refine v_iload (q := 4) dX6_ask_74 rfl ?_
        obtain ⟨hw_42, hw_43⟩ := hw
        refine v_if_ne (tgt := 82) dX6_ask_76 (by decide) (fun c_40 => ?_) (fun c_41 => ?_)
        · have hw := hw_42 c_40
          refine v_iconst dX6_ask_82 ic_0 ?_
          refine v_istore (lv1 := [(5, .int (nI 0)), (3, .int (-1)), (0, va_rf (some (b 0))), (1, .int x1), (2, .int x2), (4, .int x4)]) dX6_ask_83 (Nat.le_of_ble_eq_true rfl) rfl ?_
          obtain ⟨n_44, hw⟩ := hw
          refine v_sub [2, 3, 4, 1, 5, 0] rfl ?_
          exact b_X6_ask_85 hb (fun q0 q1 q2 q3 z => ih q0 q1 q2 q3 z) n_44 (-1) x4 (nI 0) mi ma_35 hw
        · have hw := hw_43 c_41
          refine v_goto (tgt := 146) dX6_ask_79 (by decide) ?_
          refine v_sub [1, 2, 3, 0, 4] rfl ?_
          exact b_X6_ask_146 hb (fun q0 q1 q2 q3 z => ih q0 q1 q2 q3 z) (-1) x4 mi ma_35 hw
theorem e_X6_ask {post : (Int32) → (Nat → Int32) → (Nat → Nat → Int32) → Prop}   {x1 : Int32} {x2 : Int32} {mi : Nat → Int32} {ma : Nat → Nat → Int32} {ml : Nat → Nat → Int64} (hb : mOK b)  (hw : w_X6_ask post  x1 x2 mi ma ml) : VV l E X cX6_ask RX6 "ask" 7 r_X6_ask (some .int) (vpi (fun (r : Int32) (h' : AH) => ∃ (mi' : Nat → Int32) (ma' : Nat → Nat → Int32), h' = (mH b mi' ma' ml) ∧ post r mi' ma')) (mH b mi ma ml) 0 0 0 [(0, va_rf (some (b 0))), (1, .int x1), (2, .int x2)] [] := by
  refine v_aload_n (q := 0) dX6_ask_0 rfl rfl ?_
  refine v_iconst dX6_ask_1 ic_0 ?_
  obtain ⟨mi_45, emi_45⟩ : ∃ z9 : Nat → Int32, z9 = upd mi 0 (nI 0) := ⟨_, rfl⟩
  replace hw := hw mi_45 emi_45
  refine vm_put hb 0 (Nat.le_of_ble_eq_true rfl) q1614 rfl rfl rfl dX6_ask_2 emi_45 rfl ?_
  refine v_iload_n (q := 2) dX6_ask_5 rfl rfl ?_
  refine v_i2l dX6_ask_6 ?_
  refine v_lconst (v := lN 0) dX6_ask_7 rfl ?_
  refine v_lconst (v := lN 1) dX6_ask_8 rfl ?_
  refine v_callS q1734 q1735 q113 q1736 n_X6_within ⟨Nat.le_of_ble_eq_true rfl, Nat.le_of_ble_eq_true rfl⟩ [.long ((x2).toInt64), .long (lN 0), .long (lN 1)] [] (met_X6_within hw) rfl (Nat.zero_le _) ⟨Nat.le_refl _, Nat.le_refl _⟩ dX6_ask_9 rfl (v_ki (fun z_46 h1 hv => ?_))
  clear hw
  obtain ⟨e9, hw⟩ := hv
  refine v_heap e9 ?_
  clear e9
  obtain ⟨hw_49, hw_50⟩ := hw
  refine v_if_eq (tgt := 37) dX6_ask_12 (by decide) (fun c_47 => ?_) (fun c_48 => ?_)
  · have hw := hw_49 c_47
    refine v_sub [0, 1, 2] rfl ?_
    exact b_X6_ask_37 hb mi_45 ma hw
  · have hw := hw_50 c_48
    refine v_iload_n (q := 1) dX6_ask_15 rfl rfl ?_
    refine v_i2l dX6_ask_16 ?_
    refine v_lconst (v := lN 0) dX6_ask_17 rfl ?_
    refine v_iconst dX6_ask_18 ic_1 ?_
    refine v_aload_n (q := 0) dX6_ask_19 rfl rfl ?_
    refine vm_get hb 2 (Nat.le_of_ble_eq_true rfl) q1616 rfl dX6_ask_20 rfl ?_
    refine v_sipush dX6_ask_23 sp_987 ?_
    obtain ⟨hi_51, hw⟩ := hw
    refine v_iald dX6_ask_26 (mH_ar2 hb) hi_51 ?_
    refine v_ishl dX6_ask_27 ?_
    refine v_iconst dX6_ask_28 ic_1 ?_
    refine v_isub dX6_ask_29 ?_
    refine v_i2l dX6_ask_30 ?_
    refine v_callS q1734 q1735 q113 q1736 n_X6_within ⟨Nat.le_of_ble_eq_true rfl, Nat.le_of_ble_eq_true rfl⟩ [.long ((x1).toInt64), .long (lN 0), .long (((((nI 1) <<< ((ma 2 ((nI 987)).toNatClampNeg) &&& 31)) - (nI 1))).toInt64)] [] (met_X6_within hw) rfl (Nat.zero_le _) ⟨Nat.le_refl _, Nat.le_refl _⟩ dX6_ask_31 rfl (v_ki (fun z_52 h1 hv => ?_))
    clear hw
    obtain ⟨e9, hw⟩ := hv
    refine v_heap e9 ?_
    clear e9
    obtain ⟨hw_55, hw_56⟩ := hw
    refine v_if_ne (tgt := 44) dX6_ask_34 (by decide) (fun c_53 => ?_) (fun c_54 => ?_)
    · have hw := hw_55 c_53
      refine v_iconst dX6_ask_44 ic_m1 ?_
      refine v_istore_n (lv1 := [(3, .int (-1)), (0, va_rf (some (b 0))), (1, .int x1), (2, .int x2)]) dX6_ask_45 rfl (Nat.le_of_ble_eq_true rfl) rfl ?_
      refine v_iconst dX6_ask_46 ic_0 ?_
      refine v_istore (lv1 := [(4, .int (nI 0)), (3, .int (-1)), (0, va_rf (some (b 0))), (1, .int x1), (2, .int x2)]) dX6_ask_47 (Nat.le_of_ble_eq_true rfl) rfl ?_
      obtain ⟨n_57, hw⟩ := hw
      refine v_sub [2, 3, 4, 1, 0] rfl ?_
      exact b_X6_ask_49 hb n_57 (-1) (nI 0) mi_45 ma hw
    · have hw := hw_56 c_54
      refine v_sub [0, 1, 2] rfl ?_
      exact b_X6_ask_37 hb mi_45 ma hw
theorem met_X6_ask {post : (Int32) → (Nat → Int32) → (Nat → Nat → Int32) → Prop}   {x1 : Int32} {x2 : Int32} {mi : Nat → Int32} {ma : Nat → Nat → Int32} {ml : Nat → Nat → Int64} (hb : mOK b)  (hw : w_X6_ask post  x1 x2 mi ma ml) : Mt l E yX6_ask (ws_ yX6_ask cX6_ask 7 (some .int)) r_X6_ask [va_rf (some (b 0)), .int x1, .int x2] (mH b mi ma ml) (vpi (fun (r : Int32) (h' : AH) => ∃ (mi' : Nat → Int32) (ma' : Nat → Nat → Int32), h' = (mH b mi' ma' ml) ∧ post r mi' ma')) := v_entry (by decide +kernel) (Nat.le_of_ble_eq_true rfl) rfl (fun _ => e_X6_ask hb hw)
/-! X6_row -/
abbrev r_X6_row : Room := { frames := 1, cells := 0, slots := 0, locals := 25 }
theorem n_X6_row : vdn yX6_row 3 := ⟨by decide +kernel, by decide +kernel, by decide +kernel⟩
def w_X6_row_29 (post : (Int32) → (Nat → Int32) → (Nat → Nat → Int32) → (Nat → Nat → Int64) → Prop) (x1 : Int32) (x2 : Int32) (x3 : Int32) (mi : Nat → Int32) (ma : Nat → Nat → Int32) (ml : Nat → Nat → Int64) : Prop :=
 (w_X6_no (fun (z_1 : Int32) (ma_2 : Nat → Nat → Int32) => (post z_1 mi ma_2 ml)) (-2) mi ma ml)
def w_X6_row_72 (post : (Int32) → (Nat → Int32) → (Nat → Nat → Int32) → (Nat → Nat → Int64) → Prop) (x1 : Int32) (x2 : Int32) (x3 : Int32) : Nat → (Int32) → (Nat → Int32) → (Nat → Nat → Int32) → (Nat → Nat → Int64) → Prop
 | 0, _, _, _, _ => False
 | n0 + 1, x4, mi, ma, ml =>
 ((x3 ≤ x4 → (post (nI 0) mi ma ml)) ∧ (¬ x3 ≤ x4 → (vp_in (((nI 60) * x1) + x4) 240 ∧ ∀ ml_8 : Nat → Nat → Int64, ml_8 = mupL ml 37 ((((nI 60) * x1) + x4)).toNatClampNeg (lN 0) → (∀ z_9 : Int32, z_9 = x4 + (nI 1) → (w_X6_row_72 post x1 x2 x3 n0 z_9 mi ma ml_8)))))
def w_X6_row (post : (Int32) → (Nat → Int32) → (Nat → Nat → Int32) → (Nat → Nat → Int64) → Prop) (x1 : Int32) (x2 : Int32) (x3 : Int32) (mi : Nat → Int32) (ma : Nat → Nat → Int32) (ml : Nat → Nat → Int64) : Prop :=
 (∀ mi_10 : Nat → Int32, mi_10 = upd mi 0 (nI 0) → (w_X6_within (fun (z_11 : Int32) => ((z_11 = 0 → (w_X6_row_29 post x1 x2 x3 mi_10 ma ml)) ∧ (¬ z_11 = 0 → (w_X6_within (fun (z_16 : Int32) => ((¬ z_16 = 0 → (w_X6_within (fun (z_21 : Int32) => ((¬ z_21 = 0 → (vp_in x1 4 ∧ ∀ ma_27 : Nat → Nat → Int32, ma_27 = mup ma 35 (x1).toNatClampNeg x2 → (vp_in x1 4 ∧ ∀ ma_29 : Nat → Nat → Int32, ma_29 = mup ma_27 36 (x1).toNatClampNeg x3 → (∃ n1 : Nat, (w_X6_row_72 post x1 x2 x3 n1 (nI 0) mi_10 ma_29 ml))))) ∧ (z_21 = 0 → (w_X6_no (fun (z_31 : Int32) (ma_32 : Nat → Nat → Int32) => (post z_31 mi_10 ma_32 ml)) (-3) mi_10 ma ml)))) ((x3).toInt64) (lN 0) (lN 60))) ∧ (z_16 = 0 → (w_X6_row_29 post x1 x2 x3 mi_10 ma ml)))) ((x2).toInt64) (lN 0) (lN 3))))) ((x1).toInt64) (lN 0) (lN 3)))
theorem b_X6_row_29 {post : (Int32) → (Nat → Int32) → (Nat → Nat → Int32) → (Nat → Nat → Int64) → Prop}   {x1 : Int32} {x2 : Int32} {x3 : Int32}  (hb : mOK b)   (mi : Nat → Int32) (ma : Nat → Nat → Int32) (ml : Nat → Nat → Int64) (hw : w_X6_row_29 post x1 x2 x3 mi ma ml) : VV l E X cX6_row RX6 "row" 5 r_X6_row (some .int) (vpi (fun (r : Int32) (h' : AH) => ∃ (mi' : Nat → Int32) (ma' : Nat → Nat → Int32) (ml' : Nat → Nat → Int64), h' = (mH b mi' ma' ml') ∧ post r mi' ma' ml')) (mH b mi ma ml) 0 0 29 [(0, va_rf (some (b 0))), (1, .int x1), (2, .int x2), (3, .int x3)] [] := by
  refine v_aload_n (q := 0) dX6_row_29 rfl rfl ?_
  refine v_bipush dX6_row_30 bp_m2 ?_
  refine v_callV q1737 q1739 qs53 q113 q1740 (ci := 7) rfl (mH_obj hb) n_X6_no ⟨Nat.le_of_ble_eq_true rfl, Nat.le_of_ble_eq_true rfl⟩ [.int (-2)] [] (met_X6_no hb hw) rfl (Nat.zero_le _) ⟨Nat.le_refl _, Nat.le_refl _⟩ dX6_row_32 rfl (v_ki (fun z_1 h1 hv => ?_))
  clear hw
  obtain ⟨ma_2, rfl, hw⟩ := hv
  exact v_iret dX6_row_35 rfl ⟨_, rfl, _, _, _, rfl, hw⟩
theorem b_X6_row_72 {post : (Int32) → (Nat → Int32) → (Nat → Nat → Int32) → (Nat → Nat → Int64) → Prop}   {x1 : Int32} {x2 : Int32} {x3 : Int32}  (hb : mOK b)   : ∀ (n0 : Nat) (x4 : Int32) (mi : Nat → Int32) (ma : Nat → Nat → Int32) (ml : Nat → Nat → Int64), w_X6_row_72 post x1 x2 x3 n0 x4 mi ma ml → VV l E X cX6_row RX6 "row" 5 r_X6_row (some .int) (vpi (fun (r : Int32) (h' : AH) => ∃ (mi' : Nat → Int32) (ma' : Nat → Nat → Int32) (ml' : Nat → Nat → Int64), h' = (mH b mi' ma' ml') ∧ post r mi' ma' ml')) (mH b mi ma ml) 0 0 72 [(0, va_rf (some (b 0))), (1, .int x1), (2, .int x2), (3, .int x3), (4, .int x4)] [] := by
  intro n0
  induction n0 with
  | zero =>
    intro x4 mi ma ml hw
    exact hw.elim
  | succ n0 ih =>
    intro x4 mi ma ml hw
    refine v_iload (q := 4) dX6_row_72 rfl ?_
    refine v_iload_n (q := 3) dX6_row_74 rfl rfl ?_
    obtain ⟨hw_5, hw_6⟩ := hw
    refine v_icmp_ge (tgt := 97) dX6_row_75 (by decide) (fun c_3 => ?_) (fun c_4 => ?_)
    · have hw := hw_5 c_3
      refine v_iconst dX6_row_97 ic_0 ?_
      exact v_iret dX6_row_98 rfl ⟨_, rfl, _, _, _, rfl, hw⟩
    · have hw := hw_6 c_4
      refine v_aload_n (q := 0) dX6_row_78 rfl rfl ?_
      refine vm_get hb 37 (Nat.le_of_ble_eq_true rfl) q1651 rfl dX6_row_79 rfl ?_
      refine v_bipush dX6_row_82 bp_60 ?_
      refine v_iload_n (q := 1) dX6_row_84 rfl rfl ?_
      refine v_imul dX6_row_85 ?_
      refine v_iload (q := 4) dX6_row_86 rfl ?_
      refine v_iadd dX6_row_88 ?_
      refine v_lconst (v := lN 0) dX6_row_89 rfl ?_
      obtain ⟨hi_7, hw⟩ := hw
      obtain ⟨ml_8, eml_8⟩ : ∃ z9 : Nat → Nat → Int64, z9 = mupL ml 37 ((((nI 60) * x1) + x4)).toNatClampNeg (lN 0) := ⟨_, rfl⟩
      replace hw := hw ml_8 eml_8
      refine v_last dX6_row_90 (mH_ar37 hb) hi_7 ?_
      refine v_heap (h' := mH b mi ma ml_8) (by rw [eml_8]; exact mH_st37 hb) ?_
      obtain ⟨z_9, e_9⟩ : ∃ z9 : Int32, z9 = x4 + (nI 1) := ⟨_, rfl⟩
      replace hw := hw z_9 e_9
      refine v_iinc (q := 4) (v := z_9) (lv1 := [(4, .int z_9), (0, va_rf (some (b 0))), (1, .int x1), (2, .int x2), (3, .int x3)]) dX6_row_91 rfl (by rw [e_9, ic_1]) (Nat.le_of_ble_eq_true rfl) rfl ?_
      refine v_goto (tgt := 72) dX6_row_94 (by decide) ?_
      refine v_sub [1, 2, 3, 4, 0] rfl ?_
      exact ih z_9 mi ma ml_8 hw
theorem e_X6_row {post : (Int32) → (Nat → Int32) → (Nat → Nat → Int32) → (Nat → Nat → Int64) → Prop}   {x1 : Int32} {x2 : Int32} {x3 : Int32} {mi : Nat → Int32} {ma : Nat → Nat → Int32} {ml : Nat → Nat → Int64} (hb : mOK b)  (hw : w_X6_row post  x1 x2 x3 mi ma ml) : VV l E X cX6_row RX6 "row" 5 r_X6_row (some .int) (vpi (fun (r : Int32) (h' : AH) => ∃ (mi' : Nat → Int32) (ma' : Nat → Nat → Int32) (ml' : Nat → Nat → Int64), h' = (mH b mi' ma' ml') ∧ post r mi' ma' ml')) (mH b mi ma ml) 0 0 0 [(0, va_rf (some (b 0))), (1, .int x1), (2, .int x2), (3, .int x3)] [] := by
  refine v_aload_n (q := 0) dX6_row_0 rfl rfl ?_
  refine v_iconst dX6_row_1 ic_0 ?_
  obtain ⟨mi_10, emi_10⟩ : ∃ z9 : Nat → Int32, z9 = upd mi 0 (nI 0) := ⟨_, rfl⟩
  replace hw := hw mi_10 emi_10
  refine vm_put hb 0 (Nat.le_of_ble_eq_true rfl) q1614 rfl rfl rfl dX6_row_2 emi_10 rfl ?_
  refine v_iload_n (q := 1) dX6_row_5 rfl rfl ?_
  refine v_i2l dX6_row_6 ?_
  refine v_lconst (v := lN 0) dX6_row_7 rfl ?_
  refine v_ldc2 (v := (lN 3)) dX6_row_8 q2059 ?_
  refine v_callS q1734 q1735 q113 q1736 n_X6_within ⟨Nat.le_of_ble_eq_true rfl, Nat.le_of_ble_eq_true rfl⟩ [.long ((x1).toInt64), .long (lN 0), .long (lN 3)] [] (met_X6_within hw) rfl (Nat.zero_le _) ⟨Nat.le_refl _, Nat.le_refl _⟩ dX6_row_11 rfl (v_ki (fun z_11 h1 hv => ?_))
  clear hw
  obtain ⟨e9, hw⟩ := hv
  refine v_heap e9 ?_
  clear e9
  obtain ⟨hw_14, hw_15⟩ := hw
  refine v_if_eq (tgt := 29) dX6_row_14 (by decide) (fun c_12 => ?_) (fun c_13 => ?_)
  · have hw := hw_14 c_12
    refine v_sub [0, 1, 2, 3] rfl ?_
    exact b_X6_row_29 hb mi_10 ma ml hw
  · have hw := hw_15 c_13
    refine v_iload_n (q := 2) dX6_row_17 rfl rfl ?_
    refine v_i2l dX6_row_18 ?_
    refine v_lconst (v := lN 0) dX6_row_19 rfl ?_
    refine v_ldc2 (v := (lN 3)) dX6_row_20 q2059 ?_
    refine v_callS q1734 q1735 q113 q1736 n_X6_within ⟨Nat.le_of_ble_eq_true rfl, Nat.le_of_ble_eq_true rfl⟩ [.long ((x2).toInt64), .long (lN 0), .long (lN 3)] [] (met_X6_within hw) rfl (Nat.zero_le _) ⟨Nat.le_refl _, Nat.le_refl _⟩ dX6_row_23 rfl (v_ki (fun z_16 h1 hv => ?_))
    clear hw
    obtain ⟨e9, hw⟩ := hv
    refine v_heap e9 ?_
    clear e9
    obtain ⟨hw_19, hw_20⟩ := hw
    refine v_if_ne (tgt := 36) dX6_row_26 (by decide) (fun c_17 => ?_) (fun c_18 => ?_)
    · have hw := hw_19 c_17
      refine v_iload_n (q := 3) dX6_row_36 rfl rfl ?_
      refine v_i2l dX6_row_37 ?_
      refine v_lconst (v := lN 0) dX6_row_38 rfl ?_
      refine v_ldc2 (v := (lN 60)) dX6_row_39 q2122 ?_
      refine v_callS q1734 q1735 q113 q1736 n_X6_within ⟨Nat.le_of_ble_eq_true rfl, Nat.le_of_ble_eq_true rfl⟩ [.long ((x3).toInt64), .long (lN 0), .long (lN 60)] [] (met_X6_within hw) rfl (Nat.zero_le _) ⟨Nat.le_refl _, Nat.le_refl _⟩ dX6_row_42 rfl (v_ki (fun z_21 h1 hv => ?_))
      clear hw
      obtain ⟨e9, hw⟩ := hv
      refine v_heap e9 ?_
      clear e9
      obtain ⟨hw_24, hw_25⟩ := hw
      refine v_if_ne (tgt := 55) dX6_row_45 (by decide) (fun c_22 => ?_) (fun c_23 => ?_)
      · have hw := hw_24 c_22
        refine v_aload_n (q := 0) dX6_row_55 rfl rfl ?_
        refine vm_get hb 35 (Nat.le_of_ble_eq_true rfl) q1649 rfl dX6_row_56 rfl ?_
        refine v_iload_n (q := 1) dX6_row_59 rfl rfl ?_
        refine v_iload_n (q := 2) dX6_row_60 rfl rfl ?_
        obtain ⟨hi_26, hw⟩ := hw
        obtain ⟨ma_27, ema_27⟩ : ∃ z9 : Nat → Nat → Int32, z9 = mup ma 35 (x1).toNatClampNeg x2 := ⟨_, rfl⟩
        replace hw := hw ma_27 ema_27
        refine v_iast dX6_row_61 (mH_ar35 hb) hi_26 ?_
        refine v_heap (h' := mH b mi_10 ma_27 ml) (by rw [ema_27]; exact mH_st35 hb) ?_
        refine v_aload_n (q := 0) dX6_row_62 rfl rfl ?_
        refine vm_get hb 36 (Nat.le_of_ble_eq_true rfl) q1650 rfl dX6_row_63 rfl ?_
        refine v_iload_n (q := 1) dX6_row_66 rfl rfl ?_
        refine v_iload_n (q := 3) dX6_row_67 rfl rfl ?_
        obtain ⟨hi_28, hw⟩ := hw
        obtain ⟨ma_29, ema_29⟩ : ∃ z9 : Nat → Nat → Int32, z9 = mup ma_27 36 (x1).toNatClampNeg x3 := ⟨_, rfl⟩
        replace hw := hw ma_29 ema_29
        refine v_iast dX6_row_68 (mH_ar36 hb) hi_28 ?_
        refine v_heap (h' := mH b mi_10 ma_29 ml) (by rw [ema_29]; exact mH_st36 hb) ?_
        refine v_iconst dX6_row_69 ic_0 ?_
        refine v_istore (lv1 := [(4, .int (nI 0)), (0, va_rf (some (b 0))), (1, .int x1), (2, .int x2), (3, .int x3)]) dX6_row_70 (Nat.le_of_ble_eq_true rfl) rfl ?_
        obtain ⟨n_30, hw⟩ := hw
        refine v_sub [1, 2, 3, 4, 0] rfl ?_
        exact b_X6_row_72 hb n_30 (nI 0) mi_10 ma_29 ml hw
      · have hw := hw_25 c_23
        refine v_aload_n (q := 0) dX6_row_48 rfl rfl ?_
        refine v_bipush dX6_row_49 bp_m3 ?_
        refine v_callV q1737 q1739 qs53 q113 q1740 (ci := 7) rfl (mH_obj hb) n_X6_no ⟨Nat.le_of_ble_eq_true rfl, Nat.le_of_ble_eq_true rfl⟩ [.int (-3)] [] (met_X6_no hb hw) rfl (Nat.zero_le _) ⟨Nat.le_refl _, Nat.le_refl _⟩ dX6_row_51 rfl (v_ki (fun z_31 h1 hv => ?_))
        clear hw
        obtain ⟨ma_32, rfl, hw⟩ := hv
        exact v_iret dX6_row_54 rfl ⟨_, rfl, _, _, _, rfl, hw⟩
    · have hw := hw_20 c_18
      refine v_sub [0, 1, 2, 3] rfl ?_
      exact b_X6_row_29 hb mi_10 ma ml hw
theorem met_X6_row {post : (Int32) → (Nat → Int32) → (Nat → Nat → Int32) → (Nat → Nat → Int64) → Prop}   {x1 : Int32} {x2 : Int32} {x3 : Int32} {mi : Nat → Int32} {ma : Nat → Nat → Int32} {ml : Nat → Nat → Int64} (hb : mOK b)  (hw : w_X6_row post  x1 x2 x3 mi ma ml) : Mt l E yX6_row (ws_ yX6_row cX6_row 5 (some .int)) r_X6_row [va_rf (some (b 0)), .int x1, .int x2, .int x3] (mH b mi ma ml) (vpi (fun (r : Int32) (h' : AH) => ∃ (mi' : Nat → Int32) (ma' : Nat → Nat → Int32) (ml' : Nat → Nat → Int64), h' = (mH b mi' ma' ml') ∧ post r mi' ma' ml')) := v_entry (by decide +kernel) (Nat.le_of_ble_eq_true rfl) rfl (fun _ => e_X6_row hb hw)
/-! X6_cut -/
abbrev r_X6_cut : Room := { frames := 0, cells := 0, slots := 0, locals := 0 }
theorem n_X6_cut : vdn yX6_cut 2 := ⟨by decide +kernel, by decide +kernel, by decide +kernel⟩
def w_X6_cut (post : (Int64) → Prop) (x0 : Int64) (x2 : Int32) : Prop :=
 ((¬ x2 = 0 → ((¬ x2 = (nI 1) → ((¬ x2 = (nI 2) → (post x0)) ∧ (x2 = (nI 2) → (post ((((x0).toInt32)).toInt64))))) ∧ (x2 = (nI 1) → (post ((((((x0).toInt32)).toInt16.toInt32)).toInt64))))) ∧ (x2 = 0 → (post ((((((x0).toInt32)).toInt8.toInt32)).toInt64))))
theorem e_X6_cut {post : (Int64) → Prop}   {x0 : Int64} {x2 : Int32} {h : AH}  (hw : w_X6_cut post  x0 x2) : VV l E X cX6_cut RX6 "cut" 3 r_X6_cut (some .long) (vpl (fun (r : Int64) (h' : AH) => h' = h ∧ post r)) h 0 0 0 [(0, .long x0), (2, .int x2)] [] := by
  refine v_iload_n (q := 1) dX6_cut_0 rfl rfl ?_
  obtain ⟨hw_3, hw_4⟩ := hw
  refine v_if_ne (tgt := 11) dX6_cut_1 (by decide) (fun c_1 => ?_) (fun c_2 => ?_)
  · have hw := hw_3 c_1
    refine v_iload_n (q := 1) dX6_cut_11 rfl rfl ?_
    refine v_iconst dX6_cut_12 ic_1 ?_
    obtain ⟨hw_7, hw_8⟩ := hw
    refine v_icmp_ne (tgt := 23) dX6_cut_13 (by decide) (fun c_5 => ?_) (fun c_6 => ?_)
    · have hw := hw_7 c_5
      refine v_iload_n (q := 1) dX6_cut_23 rfl rfl ?_
      refine v_iconst dX6_cut_24 ic_2 ?_
      obtain ⟨hw_11, hw_12⟩ := hw
      refine v_icmp_ne (tgt := 34) dX6_cut_25 (by decide) (fun c_9 => ?_) (fun c_10 => ?_)
      · have hw := hw_11 c_9
        refine v_lload_n (q := 0) dX6_cut_34 rfl rfl ?_
        exact v_lret dX6_cut_35 rfl ⟨_, rfl, rfl, hw⟩
      · have hw := hw_12 c_10
        refine v_lload_n (q := 0) dX6_cut_28 rfl rfl ?_
        refine v_l2i dX6_cut_29 ?_
        refine v_i2l dX6_cut_30 ?_
        refine v_goto (tgt := 35) dX6_cut_31 (by decide) ?_
        exact v_lret dX6_cut_35 rfl ⟨_, rfl, rfl, hw⟩
    · have hw := hw_8 c_6
      refine v_lload_n (q := 0) dX6_cut_16 rfl rfl ?_
      refine v_l2i dX6_cut_17 ?_
      refine v_i2s dX6_cut_18 ?_
      refine v_i2l dX6_cut_19 ?_
      refine v_goto (tgt := 35) dX6_cut_20 (by decide) ?_
      exact v_lret dX6_cut_35 rfl ⟨_, rfl, rfl, hw⟩
  · have hw := hw_4 c_2
    refine v_lload_n (q := 0) dX6_cut_4 rfl rfl ?_
    refine v_l2i dX6_cut_5 ?_
    refine v_i2b dX6_cut_6 ?_
    refine v_i2l dX6_cut_7 ?_
    refine v_goto (tgt := 35) dX6_cut_8 (by decide) ?_
    exact v_lret dX6_cut_35 rfl ⟨_, rfl, rfl, hw⟩
theorem met_X6_cut {post : (Int64) → Prop}   {x0 : Int64} {x2 : Int32} {h : AH}  (hw : w_X6_cut post  x0 x2) : Mt l E yX6_cut (ws_ yX6_cut cX6_cut 3 (some .long)) r_X6_cut [.long x0, .int x2] h (vpl (fun (r : Int64) (h' : AH) => h' = h ∧ post r)) := v_entry (by decide +kernel) (Nat.le_of_ble_eq_true rfl) rfl (fun _ => e_X6_cut hw)
/-! X6_write -/
abbrev r_X6_write : Room := { frames := 1, cells := 0, slots := 0, locals := 25 }
theorem n_X6_write : vdn yX6_write 3 := ⟨by decide +kernel, by decide +kernel, by decide +kernel⟩
def w_X6_write (post : (Int64) → (Nat → Int32) → (Nat → Nat → Int32) → (Nat → Nat → Int64) → Prop) (x1 : Int32) (x2 : Int32) (x3 : Int64) (mi : Nat → Int32) (ma : Nat → Nat → Int32) (ml : Nat → Nat → Int64) : Prop :=
 (∀ mi_1 : Nat → Int32, mi_1 = upd mi 0 (nI 0) → (w_X6_within (fun (z_2 : Int32) => ((¬ z_2 = 0 → (vp_in x1 4 ∧ ((¬ (ma 35 (x1).toNatClampNeg) = (-1) → (vp_in x1 4 ∧ (w_X6_within (fun (z_13 : Int32) => ((¬ z_13 = 0 → (vp_in x1 4 ∧ (w_X6_cut (fun (y_19 : Int64) => (vp_in (((nI 60) * x1) + x2) 240 ∧ ∀ ml_21 : Nat → Nat → Int64, ml_21 = mupL ml 37 ((((nI 60) * x1) + x2)).toNatClampNeg y_19 → (vp_in (((nI 60) * x1) + x2) 240 ∧ (post (ml_21 37 ((((nI 60) * x1) + x2)).toNatClampNeg) mi_1 ma ml_21)))) x3 (ma 35 (x1).toNatClampNeg)))) ∧ (z_13 = 0 → (w_X6_no (fun (z_23 : Int32) (ma_24 : Nat → Nat → Int32) => (post ((z_23).toInt64) mi_1 ma_24 ml)) (-7) mi_1 ma ml)))) ((x2).toInt64) (lN 0) ((((ma 36 (x1).toNatClampNeg) - (nI 1))).toInt64)))) ∧ ((ma 35 (x1).toNatClampNeg) = (-1) → (w_X6_no (fun (z_25 : Int32) (ma_26 : Nat → Nat → Int32) => (post ((z_25).toInt64) mi_1 ma_26 ml)) (-6) mi_1 ma ml))))) ∧ (z_2 = 0 → (w_X6_no (fun (z_27 : Int32) (ma_28 : Nat → Nat → Int32) => (post ((z_27).toInt64) mi_1 ma_28 ml)) (-2) mi_1 ma ml)))) ((x1).toInt64) (lN 0) (lN 3)))
theorem e_X6_write {post : (Int64) → (Nat → Int32) → (Nat → Nat → Int32) → (Nat → Nat → Int64) → Prop}   {x1 : Int32} {x2 : Int32} {x3 : Int64} {mi : Nat → Int32} {ma : Nat → Nat → Int32} {ml : Nat → Nat → Int64} (hb : mOK b)  (hw : w_X6_write post  x1 x2 x3 mi ma ml) : VV l E X cX6_write RX6 "write" 5 r_X6_write (some .long) (vpl (fun (r : Int64) (h' : AH) => ∃ (mi' : Nat → Int32) (ma' : Nat → Nat → Int32) (ml' : Nat → Nat → Int64), h' = (mH b mi' ma' ml') ∧ post r mi' ma' ml')) (mH b mi ma ml) 0 0 0 [(0, va_rf (some (b 0))), (1, .int x1), (2, .int x2), (3, .long x3)] [] := by
  refine v_aload_n (q := 0) dX6_write_0 rfl rfl ?_
  refine v_iconst dX6_write_1 ic_0 ?_
  obtain ⟨mi_1, emi_1⟩ : ∃ z9 : Nat → Int32, z9 = upd mi 0 (nI 0) := ⟨_, rfl⟩
  replace hw := hw mi_1 emi_1
  refine vm_put hb 0 (Nat.le_of_ble_eq_true rfl) q1614 rfl rfl rfl dX6_write_2 emi_1 rfl ?_
  refine v_iload_n (q := 1) dX6_write_5 rfl rfl ?_
  refine v_i2l dX6_write_6 ?_
  refine v_lconst (v := lN 0) dX6_write_7 rfl ?_
  refine v_ldc2 (v := (lN 3)) dX6_write_8 q2059 ?_
  refine v_callS q1734 q1735 q113 q1736 n_X6_within ⟨Nat.le_of_ble_eq_true rfl, Nat.le_of_ble_eq_true rfl⟩ [.long ((x1).toInt64), .long (lN 0), .long (lN 3)] [] (met_X6_within hw) rfl (Nat.zero_le _) ⟨Nat.le_refl _, Nat.le_refl _⟩ dX6_write_11 rfl (v_ki (fun z_2 h1 hv => ?_))
  clear hw
  obtain ⟨e9, hw⟩ := hv
  refine v_heap e9 ?_
  clear e9
  obtain ⟨hw_5, hw_6⟩ := hw
  refine v_if_ne (tgt := 25) dX6_write_14 (by decide) (fun c_3 => ?_) (fun c_4 => ?_)
  · have hw := hw_5 c_3
    refine v_aload_n (q := 0) dX6_write_25 rfl rfl ?_
    refine vm_get hb 35 (Nat.le_of_ble_eq_true rfl) q1649 rfl dX6_write_26 rfl ?_
    refine v_iload_n (q := 1) dX6_write_29 rfl rfl ?_
    obtain ⟨hi_7, hw⟩ := hw
    refine v_iald dX6_write_30 (mH_ar35 hb) hi_7 ?_
    refine v_iconst dX6_write_31 ic_m1 ?_
    obtain ⟨hw_10, hw_11⟩ := hw
    refine v_icmp_ne (tgt := 43) dX6_write_32 (by decide) (fun c_8 => ?_) (fun c_9 => ?_)
    · have hw := hw_10 c_8
      refine v_iload_n (q := 2) dX6_write_43 rfl rfl ?_
      refine v_i2l dX6_write_44 ?_
      refine v_lconst (v := lN 0) dX6_write_45 rfl ?_
      refine v_aload_n (q := 0) dX6_write_46 rfl rfl ?_
      refine vm_get hb 36 (Nat.le_of_ble_eq_true rfl) q1650 rfl dX6_write_47 rfl ?_
      refine v_iload_n (q := 1) dX6_write_50 rfl rfl ?_
      obtain ⟨hi_12, hw⟩ := hw
      refine v_iald dX6_write_51 (mH_ar36 hb) hi_12 ?_
      refine v_iconst dX6_write_52 ic_1 ?_
      refine v_isub dX6_write_53 ?_
      refine v_i2l dX6_write_54 ?_
      refine v_callS q1734 q1735 q113 q1736 n_X6_within ⟨Nat.le_of_ble_eq_true rfl, Nat.le_of_ble_eq_true rfl⟩ [.long ((x2).toInt64), .long (lN 0), .long ((((ma 36 (x1).toNatClampNeg) - (nI 1))).toInt64)] [] (met_X6_within hw) rfl (Nat.zero_le _) ⟨Nat.le_refl _, Nat.le_refl _⟩ dX6_write_55 rfl (v_ki (fun z_13 h1 hv => ?_))
      clear hw
      obtain ⟨e9, hw⟩ := hv
      refine v_heap e9 ?_
      clear e9
      obtain ⟨hw_16, hw_17⟩ := hw
      refine v_if_ne (tgt := 69) dX6_write_58 (by decide) (fun c_14 => ?_) (fun c_15 => ?_)
      · have hw := hw_16 c_14
        refine v_aload_n (q := 0) dX6_write_69 rfl rfl ?_
        refine vm_get hb 37 (Nat.le_of_ble_eq_true rfl) q1651 rfl dX6_write_70 rfl ?_
        refine v_bipush dX6_write_73 bp_60 ?_
        refine v_iload_n (q := 1) dX6_write_75 rfl rfl ?_
        refine v_imul dX6_write_76 ?_
        refine v_iload_n (q := 2) dX6_write_77 rfl rfl ?_
        refine v_iadd dX6_write_78 ?_
        refine v_lload_n (q := 3) dX6_write_79 rfl rfl ?_
        refine v_aload_n (q := 0) dX6_write_80 rfl rfl ?_
        refine vm_get hb 35 (Nat.le_of_ble_eq_true rfl) q1649 rfl dX6_write_81 rfl ?_
        refine v_iload_n (q := 1) dX6_write_84 rfl rfl ?_
        obtain ⟨hi_18, hw⟩ := hw
        refine v_iald dX6_write_85 (mH_ar35 hb) hi_18 ?_
        refine v_callS q2127 q2128 q113 q2129 n_X6_cut ⟨Nat.le_of_ble_eq_true rfl, Nat.le_of_ble_eq_true rfl⟩ [.long x3, .int (ma 35 (x1).toNatClampNeg)] [.int (((nI 60) * x1) + x2), va_rf (some (b 37))] (met_X6_cut hw) rfl (by simp only [List.map_cons, List.map_nil, List.sum_cons, List.sum_nil, v_rf1, v_cI, v_cJ]; decide) ⟨Nat.le_refl _, Nat.le_refl _⟩ dX6_write_86 rfl (v_kl (fun y_19 h1 hv => ?_))
        clear hw
        obtain ⟨e9, hw⟩ := hv
        refine v_heap e9 ?_
        clear e9
        obtain ⟨hi_20, hw⟩ := hw
        obtain ⟨ml_21, eml_21⟩ : ∃ z9 : Nat → Nat → Int64, z9 = mupL ml 37 ((((nI 60) * x1) + x2)).toNatClampNeg y_19 := ⟨_, rfl⟩
        replace hw := hw ml_21 eml_21
        refine v_last dX6_write_89 (mH_ar37 hb) hi_20 ?_
        refine v_heap (h' := mH b mi_1 ma ml_21) (by rw [eml_21]; exact mH_st37 hb) ?_
        refine v_aload_n (q := 0) dX6_write_90 rfl rfl ?_
        refine vm_get hb 37 (Nat.le_of_ble_eq_true rfl) q1651 rfl dX6_write_91 rfl ?_
        refine v_bipush dX6_write_94 bp_60 ?_
        refine v_iload_n (q := 1) dX6_write_96 rfl rfl ?_
        refine v_imul dX6_write_97 ?_
        refine v_iload_n (q := 2) dX6_write_98 rfl rfl ?_
        refine v_iadd dX6_write_99 ?_
        obtain ⟨hi_22, hw⟩ := hw
        refine v_lald dX6_write_100 (mH_ar37 hb) hi_22 ?_
        exact v_lret dX6_write_101 rfl ⟨_, rfl, _, _, _, rfl, hw⟩
      · have hw := hw_17 c_15
        refine v_aload_n (q := 0) dX6_write_61 rfl rfl ?_
        refine v_bipush dX6_write_62 bp_m7 ?_
        refine v_callV q1737 q1739 qs53 q113 q1740 (ci := 7) rfl (mH_obj hb) n_X6_no ⟨Nat.le_of_ble_eq_true rfl, Nat.le_of_ble_eq_true rfl⟩ [.int (-7)] [] (met_X6_no hb hw) rfl (Nat.zero_le _) ⟨Nat.le_refl _, Nat.le_refl _⟩ dX6_write_64 rfl (v_ki (fun z_23 h1 hv => ?_))
        clear hw
        obtain ⟨ma_24, rfl, hw⟩ := hv
        refine v_i2l dX6_write_67 ?_
        exact v_lret dX6_write_68 rfl ⟨_, rfl, _, _, _, rfl, hw⟩
    · have hw := hw_11 c_9
      refine v_aload_n (q := 0) dX6_write_35 rfl rfl ?_
      refine v_bipush dX6_write_36 bp_m6 ?_
      refine v_callV q1737 q1739 qs53 q113 q1740 (ci := 7) rfl (mH_obj hb) n_X6_no ⟨Nat.le_of_ble_eq_true rfl, Nat.le_of_ble_eq_true rfl⟩ [.int (-6)] [] (met_X6_no hb hw) rfl (Nat.zero_le _) ⟨Nat.le_refl _, Nat.le_refl _⟩ dX6_write_38 rfl (v_ki (fun z_25 h1 hv => ?_))
      clear hw
      obtain ⟨ma_26, rfl, hw⟩ := hv
      refine v_i2l dX6_write_41 ?_
      exact v_lret dX6_write_42 rfl ⟨_, rfl, _, _, _, rfl, hw⟩
  · have hw := hw_6 c_4
    refine v_aload_n (q := 0) dX6_write_17 rfl rfl ?_
    refine v_bipush dX6_write_18 bp_m2 ?_
    refine v_callV q1737 q1739 qs53 q113 q1740 (ci := 7) rfl (mH_obj hb) n_X6_no ⟨Nat.le_of_ble_eq_true rfl, Nat.le_of_ble_eq_true rfl⟩ [.int (-2)] [] (met_X6_no hb hw) rfl (Nat.zero_le _) ⟨Nat.le_refl _, Nat.le_refl _⟩ dX6_write_20 rfl (v_ki (fun z_27 h1 hv => ?_))
    clear hw
    obtain ⟨ma_28, rfl, hw⟩ := hv
    refine v_i2l dX6_write_23 ?_
    exact v_lret dX6_write_24 rfl ⟨_, rfl, _, _, _, rfl, hw⟩
theorem met_X6_write {post : (Int64) → (Nat → Int32) → (Nat → Nat → Int32) → (Nat → Nat → Int64) → Prop}   {x1 : Int32} {x2 : Int32} {x3 : Int64} {mi : Nat → Int32} {ma : Nat → Nat → Int32} {ml : Nat → Nat → Int64} (hb : mOK b)  (hw : w_X6_write post  x1 x2 x3 mi ma ml) : Mt l E yX6_write (ws_ yX6_write cX6_write 5 (some .long)) r_X6_write [va_rf (some (b 0)), .int x1, .int x2, .long x3] (mH b mi ma ml) (vpl (fun (r : Int64) (h' : AH) => ∃ (mi' : Nat → Int32) (ma' : Nat → Nat → Int32) (ml' : Nat → Nat → Int64), h' = (mH b mi' ma' ml') ∧ post r mi' ma' ml')) := v_entry (by decide +kernel) (Nat.le_of_ble_eq_true rfl) rfl (fun _ => e_X6_write hb hw)
/-! X6_minister -/
abbrev r_X6_minister : Room := { frames := 4, cells := 0, slots := 0, locals := 97 }
theorem n_X6_minister : vdn yX6_minister 1 := ⟨by decide +kernel, by decide +kernel, by decide +kernel⟩
def w_X6_minister_171 (post : (Int32) → (Nat → Int32) → (Nat → Nat → Int32) → (Nat → Nat → Int64) → Prop) (x1 : Int32) : Nat → (Int32) → (Int32) → (Nat → Int32) → (Nat → Nat → Int32) → (Nat → Nat → Int64) → Prop
 | 0, _, _, _, _, _ => False
 | n0 + 1, x2, x3, mi, ma, ml =>
 ((x2 ≤ x3 → (post x2 mi ma ml)) ∧ (¬ x2 ≤ x3 → (∀ z_5 : Int32, z_5 = (((nI 60) * x1) + ((nI 5) * x3)) → (vp_in z_5 240 ∧ (vp_in (z_5 + (nI 1)) 240 ∧ (vp_in (z_5 + (nI 2)) 240 ∧ (vp_in (z_5 + (nI 3)) 240 ∧ (vp_in (z_5 + (nI 4)) 240 ∧ (w_X6_answers (fun (ma_11 : Nat → Nat → Int32) (ml_12 : Nat → Nat → Int64) => (∀ z_13 : Int32, z_13 = x3 + (nI 1) → (w_X6_minister_171 post x1 n0 x2 z_13 mi ma_11 ml_12))) (((ml 37 (z_5).toNatClampNeg)).toInt32) (((ml 37 ((z_5 + (nI 1))).toNatClampNeg)).toInt32) (((ml 37 ((z_5 + (nI 2))).toNatClampNeg)).toInt32) (((ml 37 ((z_5 + (nI 3))).toNatClampNeg)).toInt32) (((ml 37 ((z_5 + (nI 4))).toNatClampNeg)).toInt32) (lN 0) mi ma ml)))))))))
def w_X6_minister_70 (post : (Int32) → (Nat → Int32) → (Nat → Nat → Int32) → (Nat → Nat → Int64) → Prop) (x1 : Int32) : Nat → (Int32) → (Int32) → (Nat → Int32) → (Nat → Nat → Int32) → (Nat → Nat → Int64) → Prop
 | 0, _, _, _, _, _ => False
 | n0 + 1, x2, x3, mi, ma, ml =>
 ((x2 ≤ x3 → (vp_in (nI 547) 3372 ∧ ((((ma 2 ((nI 547)).toNatClampNeg) + x2) ≤ (nI 60) → (∃ n1 : Nat, (w_X6_minister_171 post x1 n1 x2 (nI 0) mi ma ml))) ∧ (¬ ((ma 2 ((nI 547)).toNatClampNeg) + x2) ≤ (nI 60) → (w_X6_no (fun (z_24 : Int32) (ma_25 : Nat → Nat → Int32) => (post z_24 mi ma_25 ml)) (-4) mi ma ml))))) ∧ (¬ x2 ≤ x3 → (∀ z_26 : Int32, z_26 = (((nI 60) * x1) + ((nI 5) * x3)) → (vp_in z_26 240 ∧ (vp_in (z_26 + (nI 1)) 240 ∧ (vp_in (z_26 + (nI 2)) 240 ∧ (vp_in (z_26 + (nI 3)) 240 ∧ (vp_in (z_26 + (nI 4)) 240 ∧ (w_X6_isAnswer (fun (z_32 : Int32) => ((¬ z_32 = 0 → (∀ z_37 : Int32, z_37 = x3 + (nI 1) → (w_X6_minister_70 post x1 n0 x2 z_37 mi ma ml))) ∧ (z_32 = 0 → (w_X6_no (fun (z_38 : Int32) (ma_39 : Nat → Nat → Int32) => (post z_38 mi ma_39 ml)) (-3) mi ma ml)))) (ml 37 (z_26).toNatClampNeg) (ml 37 ((z_26 + (nI 1))).toNatClampNeg) (ml 37 ((z_26 + (nI 2))).toNatClampNeg) (ml 37 ((z_26 + (nI 3))).toNatClampNeg) (ml 37 ((z_26 + (nI 4))).toNatClampNeg))))))))))
def w_X6_minister (post : (Int32) → (Nat → Int32) → (Nat → Nat → Int32) → (Nat → Nat → Int64) → Prop) (x1 : Int32) (mi : Nat → Int32) (ma : Nat → Nat → Int32) (ml : Nat → Nat → Int64) : Prop :=
 (∀ mi_40 : Nat → Int32, mi_40 = upd mi 0 (nI 0) → (w_X6_within (fun (z_41 : Int32) => ((¬ z_41 = 0 → (vp_in x1 4 ∧ ((¬ (ma 35 (x1).toNatClampNeg) = (-1) → (vp_in x1 4 ∧ ((((ma 36 (x1).toNatClampNeg) - (ma 36 (x1).toNatClampNeg) / (nI 5) * (nI 5)) = 0 → (vp_in x1 4 ∧ (∀ z_57 : Int32, z_57 = ((ma 36 (x1).toNatClampNeg) / (nI 5)) → (∃ n1 : Nat, (w_X6_minister_70 post x1 n1 z_57 (nI 0) mi_40 ma ml))))) ∧ (¬ ((ma 36 (x1).toNatClampNeg) - (ma 36 (x1).toNatClampNeg) / (nI 5) * (nI 5)) = 0 → (w_X6_no (fun (z_59 : Int32) (ma_60 : Nat → Nat → Int32) => (post z_59 mi_40 ma_60 ml)) (-7) mi_40 ma ml))))) ∧ ((ma 35 (x1).toNatClampNeg) = (-1) → (w_X6_no (fun (z_61 : Int32) (ma_62 : Nat → Nat → Int32) => (post z_61 mi_40 ma_62 ml)) (-6) mi_40 ma ml))))) ∧ (z_41 = 0 → (w_X6_no (fun (z_63 : Int32) (ma_64 : Nat → Nat → Int32) => (post z_63 mi_40 ma_64 ml)) (-2) mi_40 ma ml)))) ((x1).toInt64) (lN 0) (lN 3)))
theorem b_X6_minister_171 {post : (Int32) → (Nat → Int32) → (Nat → Nat → Int32) → (Nat → Nat → Int64) → Prop}   {x1 : Int32}  (hb : mOK b)   : ∀ (n0 : Nat) (x2 : Int32) (x3 : Int32) (mi : Nat → Int32) (ma : Nat → Nat → Int32) (ml : Nat → Nat → Int64), w_X6_minister_171 post x1 n0 x2 x3 mi ma ml → VV l E X cX6_minister RX6 "minister" 5 r_X6_minister (some .int) (vpi (fun (r : Int32) (h' : AH) => ∃ (mi' : Nat → Int32) (ma' : Nat → Nat → Int32) (ml' : Nat → Nat → Int64), h' = (mH b mi' ma' ml') ∧ post r mi' ma' ml')) (mH b mi ma ml) 0 0 171 [(0, va_rf (some (b 0))), (1, .int x1), (2, .int x2), (3, .int x3)] [] := by
  intro n0
  induction n0 with
  | zero =>
    intro x2 x3 mi ma ml hw
    exact hw.elim
  | succ n0 ih =>
    intro x2 x3 mi ma ml hw
    refine v_iload_n (q := 3) dX6_minister_171 rfl rfl ?_
    refine v_iload_n (q := 2) dX6_minister_172 rfl rfl ?_
    obtain ⟨hw_3, hw_4⟩ := hw
    refine v_icmp_ge (tgt := 245) dX6_minister_173 (by decide) (fun c_1 => ?_) (fun c_2 => ?_)
    · have hw := hw_3 c_1
      refine v_iload_n (q := 2) dX6_minister_245 rfl rfl ?_
      exact v_iret dX6_minister_246 rfl ⟨_, rfl, _, _, _, rfl, hw⟩
    · have hw := hw_4 c_2
      refine v_bipush dX6_minister_176 bp_60 ?_
      refine v_iload_n (q := 1) dX6_minister_178 rfl rfl ?_
      refine v_imul dX6_minister_179 ?_
      refine v_iconst dX6_minister_180 ic_5 ?_
      refine v_iload_n (q := 3) dX6_minister_181 rfl rfl ?_
      refine v_imul dX6_minister_182 ?_
      refine v_iadd dX6_minister_183 ?_
      refine v_topi (fun z_5 e_5 => ?_)
      replace hw := hw z_5 e_5
      refine v_istore (lv1 := [(4, .int z_5), (0, va_rf (some (b 0))), (1, .int x1), (2, .int x2), (3, .int x3)]) dX6_minister_184 (Nat.le_of_ble_eq_true rfl) rfl ?_
      refine v_aload_n (q := 1) dX6_minister_186 rfl rfl ?_
      refine v_aload_n (q := 1) dX6_minister_187 rfl rfl ?_
      refine vm_get hb 37 (Nat.le_of_ble_eq_true rfl) q1651 rfl dX6_minister_188 rfl ?_
      refine v_iload (q := 0) dX6_minister_191 rfl ?_
      obtain ⟨hi_6, hw⟩ := hw
      refine v_lald dX6_minister_193 (mH_ar37 hb) hi_6 ?_
      refine v_l2i dX6_minister_194 ?_
      refine v_aload_n (q := 1) dX6_minister_195 rfl rfl ?_
      refine vm_get hb 37 (Nat.le_of_ble_eq_true rfl) q1651 rfl dX6_minister_196 rfl ?_
      refine v_iload (q := 0) dX6_minister_199 rfl ?_
      refine v_iconst dX6_minister_201 ic_1 ?_
      refine v_iadd dX6_minister_202 ?_
      obtain ⟨hi_7, hw⟩ := hw
      refine v_lald dX6_minister_203 (mH_ar37 hb) hi_7 ?_
      refine v_l2i dX6_minister_204 ?_
      refine v_aload_n (q := 1) dX6_minister_205 rfl rfl ?_
      refine vm_get hb 37 (Nat.le_of_ble_eq_true rfl) q1651 rfl dX6_minister_206 rfl ?_
      refine v_iload (q := 0) dX6_minister_209 rfl ?_
      refine v_iconst dX6_minister_211 ic_2 ?_
      refine v_iadd dX6_minister_212 ?_
      obtain ⟨hi_8, hw⟩ := hw
      refine v_lald dX6_minister_213 (mH_ar37 hb) hi_8 ?_
      refine v_l2i dX6_minister_214 ?_
      refine v_aload_n (q := 1) dX6_minister_215 rfl rfl ?_
      refine vm_get hb 37 (Nat.le_of_ble_eq_true rfl) q1651 rfl dX6_minister_216 rfl ?_
      refine v_iload (q := 0) dX6_minister_219 rfl ?_
      refine v_iconst dX6_minister_221 ic_3 ?_
      refine v_iadd dX6_minister_222 ?_
      obtain ⟨hi_9, hw⟩ := hw
      refine v_lald dX6_minister_223 (mH_ar37 hb) hi_9 ?_
      refine v_l2i dX6_minister_224 ?_
      refine v_aload_n (q := 1) dX6_minister_225 rfl rfl ?_
      refine vm_get hb 37 (Nat.le_of_ble_eq_true rfl) q1651 rfl dX6_minister_226 rfl ?_
      refine v_iload (q := 0) dX6_minister_229 rfl ?_
      refine v_iconst dX6_minister_231 ic_4 ?_
      refine v_iadd dX6_minister_232 ?_
      obtain ⟨hi_10, hw⟩ := hw
      refine v_lald dX6_minister_233 (mH_ar37 hb) hi_10 ?_
      refine v_l2i dX6_minister_234 ?_
      refine v_lconst (v := lN 0) dX6_minister_235 rfl ?_
      refine v_callV q2018 q2020 qs90 q113 q2021 (ci := 7) rfl (mH_obj hb) n_X6_answers ⟨Nat.le_of_ble_eq_true rfl, Nat.le_of_ble_eq_true rfl⟩ [.int (((ml 37 (z_5).toNatClampNeg)).toInt32), .int (((ml 37 ((z_5 + (nI 1))).toNatClampNeg)).toInt32), .int (((ml 37 ((z_5 + (nI 2))).toNatClampNeg)).toInt32), .int (((ml 37 ((z_5 + (nI 3))).toNatClampNeg)).toInt32), .int (((ml 37 ((z_5 + (nI 4))).toNatClampNeg)).toInt32), .long (lN 0)] [] (met_X6_answers hb hw) rfl (Nat.zero_le _) ⟨Nat.le_refl _, Nat.le_refl _⟩ dX6_minister_236 rfl (v_kv (fun h1 hv => ?_))
      clear hw
      obtain ⟨ma_11, ml_12, rfl, hw⟩ := hv
      obtain ⟨z_13, e_13⟩ : ∃ z9 : Int32, z9 = x3 + (nI 1) := ⟨_, rfl⟩
      replace hw := hw z_13 e_13
      refine v_iinc (q := 4) (v := z_13) (lv1 := [(3, .int z_13), (4, .int z_5), (0, va_rf (some (b 0))), (1, .int x1), (2, .int x2)]) dX6_minister_239 rfl (by rw [e_13, ic_1]) (Nat.le_of_ble_eq_true rfl) rfl ?_
      refine v_goto (tgt := 171) dX6_minister_242 (by decide) ?_
      refine v_sub [2, 3, 4, 0] rfl ?_
      exact ih x2 z_13 mi ma_11 ml_12 hw
theorem b_X6_minister_70 {post : (Int32) → (Nat → Int32) → (Nat → Nat → Int32) → (Nat → Nat → Int64) → Prop}   {x1 : Int32}  (hb : mOK b)   : ∀ (n0 : Nat) (x2 : Int32) (x3 : Int32) (mi : Nat → Int32) (ma : Nat → Nat → Int32) (ml : Nat → Nat → Int64), w_X6_minister_70 post x1 n0 x2 x3 mi ma ml → VV l E X cX6_minister RX6 "minister" 5 r_X6_minister (some .int) (vpi (fun (r : Int32) (h' : AH) => ∃ (mi' : Nat → Int32) (ma' : Nat → Nat → Int32) (ml' : Nat → Nat → Int64), h' = (mH b mi' ma' ml') ∧ post r mi' ma' ml')) (mH b mi ma ml) 0 0 70 [(0, va_rf (some (b 0))), (1, .int x1), (2, .int x2), (3, .int x3)] [] := by
  intro n0
  induction n0 with
  | zero =>
    intro x2 x3 mi ma ml hw
    exact hw.elim
  | succ n0 ih =>
    intro x2 x3 mi ma ml hw
    refine v_iload_n (q := 3) dX6_minister_70 rfl rfl ?_
    refine v_iload_n (q := 2) dX6_minister_71 rfl rfl ?_
    obtain ⟨hw_16, hw_17⟩ := hw
    refine v_icmp_ge (tgt := 147) dX6_minister_72 (by decide) (fun c_14 => ?_) (fun c_15 => ?_)
    · have hw := hw_16 c_14
      refine v_aload_n (q := 0) dX6_minister_147 rfl rfl ?_
      refine vm_get hb 2 (Nat.le_of_ble_eq_true rfl) q1616 rfl dX6_minister_148 rfl ?_
      refine v_sipush dX6_minister_151 sp_547 ?_
      obtain ⟨hi_18, hw⟩ := hw
      refine v_iald dX6_minister_154 (mH_ar2 hb) hi_18 ?_
      refine v_iload_n (q := 2) dX6_minister_155 rfl rfl ?_
      refine v_iadd dX6_minister_156 ?_
      refine v_bipush dX6_minister_157 bp_60 ?_
      obtain ⟨hw_21, hw_22⟩ := hw
      refine v_icmp_le (tgt := 169) dX6_minister_159 (by decide) (fun c_19 => ?_) (fun c_20 => ?_)
      · have hw := hw_21 c_19
        refine v_iconst dX6_minister_169 ic_0 ?_
        refine v_istore_n (lv1 := [(3, .int (nI 0)), (0, va_rf (some (b 0))), (1, .int x1), (2, .int x2)]) dX6_minister_170 rfl (Nat.le_of_ble_eq_true rfl) rfl ?_
        obtain ⟨n_23, hw⟩ := hw
        refine v_sub [1, 2, 3, 0] rfl ?_
        exact b_X6_minister_171 hb n_23 x2 (nI 0) mi ma ml hw
      · have hw := hw_22 c_20
        refine v_aload_n (q := 0) dX6_minister_162 rfl rfl ?_
        refine v_bipush dX6_minister_163 bp_m4 ?_
        refine v_callV q1737 q1739 qs53 q113 q1740 (ci := 7) rfl (mH_obj hb) n_X6_no ⟨Nat.le_of_ble_eq_true rfl, Nat.le_of_ble_eq_true rfl⟩ [.int (-4)] [] (met_X6_no hb hw) rfl (Nat.zero_le _) ⟨Nat.le_refl _, Nat.le_refl _⟩ dX6_minister_165 rfl (v_ki (fun z_24 h1 hv => ?_))
        clear hw
        obtain ⟨ma_25, rfl, hw⟩ := hv
        exact v_iret dX6_minister_168 rfl ⟨_, rfl, _, _, _, rfl, hw⟩
    · have hw := hw_17 c_15
      refine v_bipush dX6_minister_75 bp_60 ?_
      refine v_iload_n (q := 1) dX6_minister_77 rfl rfl ?_
      refine v_imul dX6_minister_78 ?_
      refine v_iconst dX6_minister_79 ic_5 ?_
      refine v_iload_n (q := 3) dX6_minister_80 rfl rfl ?_
      refine v_imul dX6_minister_81 ?_
      refine v_iadd dX6_minister_82 ?_
      refine v_topi (fun z_26 e_26 => ?_)
      replace hw := hw z_26 e_26
      refine v_istore (lv1 := [(4, .int z_26), (0, va_rf (some (b 0))), (1, .int x1), (2, .int x2), (3, .int x3)]) dX6_minister_83 (Nat.le_of_ble_eq_true rfl) rfl ?_
      refine v_aload_n (q := 1) dX6_minister_85 rfl rfl ?_
      refine vm_get hb 37 (Nat.le_of_ble_eq_true rfl) q1651 rfl dX6_minister_86 rfl ?_
      refine v_iload (q := 0) dX6_minister_89 rfl ?_
      obtain ⟨hi_27, hw⟩ := hw
      refine v_lald dX6_minister_91 (mH_ar37 hb) hi_27 ?_
      refine v_aload_n (q := 1) dX6_minister_92 rfl rfl ?_
      refine vm_get hb 37 (Nat.le_of_ble_eq_true rfl) q1651 rfl dX6_minister_93 rfl ?_
      refine v_iload (q := 0) dX6_minister_96 rfl ?_
      refine v_iconst dX6_minister_98 ic_1 ?_
      refine v_iadd dX6_minister_99 ?_
      obtain ⟨hi_28, hw⟩ := hw
      refine v_lald dX6_minister_100 (mH_ar37 hb) hi_28 ?_
      refine v_aload_n (q := 1) dX6_minister_101 rfl rfl ?_
      refine vm_get hb 37 (Nat.le_of_ble_eq_true rfl) q1651 rfl dX6_minister_102 rfl ?_
      refine v_iload (q := 0) dX6_minister_105 rfl ?_
      refine v_iconst dX6_minister_107 ic_2 ?_
      refine v_iadd dX6_minister_108 ?_
      obtain ⟨hi_29, hw⟩ := hw
      refine v_lald dX6_minister_109 (mH_ar37 hb) hi_29 ?_
      refine v_aload_n (q := 1) dX6_minister_110 rfl rfl ?_
      refine vm_get hb 37 (Nat.le_of_ble_eq_true rfl) q1651 rfl dX6_minister_111 rfl ?_
      refine v_iload (q := 0) dX6_minister_114 rfl ?_
      refine v_iconst dX6_minister_116 ic_3 ?_
      refine v_iadd dX6_minister_117 ?_
      obtain ⟨hi_30, hw⟩ := hw
      refine v_lald dX6_minister_118 (mH_ar37 hb) hi_30 ?_
      refine v_aload_n (q := 1) dX6_minister_119 rfl rfl ?_
      refine vm_get hb 37 (Nat.le_of_ble_eq_true rfl) q1651 rfl dX6_minister_120 rfl ?_
      refine v_iload (q := 0) dX6_minister_123 rfl ?_
      refine v_iconst dX6_minister_125 ic_4 ?_
      refine v_iadd dX6_minister_126 ?_
      obtain ⟨hi_31, hw⟩ := hw
      refine v_lald dX6_minister_127 (mH_ar37 hb) hi_31 ?_
      refine v_callS q2015 q2016 q113 q2017 n_X6_isAnswer ⟨Nat.le_of_ble_eq_true rfl, Nat.le_of_ble_eq_true rfl⟩ [.long (ml 37 (z_26).toNatClampNeg), .long (ml 37 ((z_26 + (nI 1))).toNatClampNeg), .long (ml 37 ((z_26 + (nI 2))).toNatClampNeg), .long (ml 37 ((z_26 + (nI 3))).toNatClampNeg), .long (ml 37 ((z_26 + (nI 4))).toNatClampNeg)] [] (met_X6_isAnswer hw) rfl (Nat.zero_le _) ⟨Nat.le_refl _, Nat.le_refl _⟩ dX6_minister_128 rfl (v_ki (fun z_32 h1 hv => ?_))
      clear hw
      obtain ⟨e9, hw⟩ := hv
      refine v_heap e9 ?_
      clear e9
      obtain ⟨hw_35, hw_36⟩ := hw
      refine v_if_ne (tgt := 141) dX6_minister_131 (by decide) (fun c_33 => ?_) (fun c_34 => ?_)
      · have hw := hw_35 c_33
        obtain ⟨z_37, e_37⟩ : ∃ z9 : Int32, z9 = x3 + (nI 1) := ⟨_, rfl⟩
        replace hw := hw z_37 e_37
        refine v_iinc (q := 4) (v := z_37) (lv1 := [(3, .int z_37), (4, .int z_26), (0, va_rf (some (b 0))), (1, .int x1), (2, .int x2)]) dX6_minister_141 rfl (by rw [e_37, ic_1]) (Nat.le_of_ble_eq_true rfl) rfl ?_
        refine v_goto (tgt := 70) dX6_minister_144 (by decide) ?_
        refine v_sub [2, 3, 4, 0] rfl ?_
        exact ih x2 z_37 mi ma ml hw
      · have hw := hw_36 c_34
        refine v_aload_n (q := 1) dX6_minister_134 rfl rfl ?_
        refine v_bipush dX6_minister_135 bp_m3 ?_
        refine v_callV q1737 q1739 qs53 q113 q1740 (ci := 7) rfl (mH_obj hb) n_X6_no ⟨Nat.le_of_ble_eq_true rfl, Nat.le_of_ble_eq_true rfl⟩ [.int (-3)] [] (met_X6_no hb hw) rfl (Nat.zero_le _) ⟨Nat.le_refl _, Nat.le_refl _⟩ dX6_minister_137 rfl (v_ki (fun z_38 h1 hv => ?_))
        clear hw
        obtain ⟨ma_39, rfl, hw⟩ := hv
        exact v_iret dX6_minister_140 rfl ⟨_, rfl, _, _, _, rfl, hw⟩
theorem e_X6_minister {post : (Int32) → (Nat → Int32) → (Nat → Nat → Int32) → (Nat → Nat → Int64) → Prop}   {x1 : Int32} {mi : Nat → Int32} {ma : Nat → Nat → Int32} {ml : Nat → Nat → Int64} (hb : mOK b)  (hw : w_X6_minister post  x1 mi ma ml) : VV l E X cX6_minister RX6 "minister" 5 r_X6_minister (some .int) (vpi (fun (r : Int32) (h' : AH) => ∃ (mi' : Nat → Int32) (ma' : Nat → Nat → Int32) (ml' : Nat → Nat → Int64), h' = (mH b mi' ma' ml') ∧ post r mi' ma' ml')) (mH b mi ma ml) 0 0 0 [(0, va_rf (some (b 0))), (1, .int x1)] [] := by
  refine v_aload_n (q := 0) dX6_minister_0 rfl rfl ?_
  refine v_iconst dX6_minister_1 ic_0 ?_
  obtain ⟨mi_40, emi_40⟩ : ∃ z9 : Nat → Int32, z9 = upd mi 0 (nI 0) := ⟨_, rfl⟩
  replace hw := hw mi_40 emi_40
  refine vm_put hb 0 (Nat.le_of_ble_eq_true rfl) q1614 rfl rfl rfl dX6_minister_2 emi_40 rfl ?_
  refine v_iload_n (q := 1) dX6_minister_5 rfl rfl ?_
  refine v_i2l dX6_minister_6 ?_
  refine v_lconst (v := lN 0) dX6_minister_7 rfl ?_
  refine v_ldc2 (v := (lN 3)) dX6_minister_8 q2059 ?_
  refine v_callS q1734 q1735 q113 q1736 n_X6_within ⟨Nat.le_of_ble_eq_true rfl, Nat.le_of_ble_eq_true rfl⟩ [.long ((x1).toInt64), .long (lN 0), .long (lN 3)] [] (met_X6_within hw) rfl (Nat.zero_le _) ⟨Nat.le_refl _, Nat.le_refl _⟩ dX6_minister_11 rfl (v_ki (fun z_41 h1 hv => ?_))
  clear hw
  obtain ⟨e9, hw⟩ := hv
  refine v_heap e9 ?_
  clear e9
  obtain ⟨hw_44, hw_45⟩ := hw
  refine v_if_ne (tgt := 24) dX6_minister_14 (by decide) (fun c_42 => ?_) (fun c_43 => ?_)
  · have hw := hw_44 c_42
    refine v_aload_n (q := 0) dX6_minister_24 rfl rfl ?_
    refine vm_get hb 35 (Nat.le_of_ble_eq_true rfl) q1649 rfl dX6_minister_25 rfl ?_
    refine v_iload_n (q := 1) dX6_minister_28 rfl rfl ?_
    obtain ⟨hi_46, hw⟩ := hw
    refine v_iald dX6_minister_29 (mH_ar35 hb) hi_46 ?_
    refine v_iconst dX6_minister_30 ic_m1 ?_
    obtain ⟨hw_49, hw_50⟩ := hw
    refine v_icmp_ne (tgt := 41) dX6_minister_31 (by decide) (fun c_47 => ?_) (fun c_48 => ?_)
    · have hw := hw_49 c_47
      refine v_aload_n (q := 0) dX6_minister_41 rfl rfl ?_
      refine vm_get hb 36 (Nat.le_of_ble_eq_true rfl) q1650 rfl dX6_minister_42 rfl ?_
      refine v_iload_n (q := 1) dX6_minister_45 rfl rfl ?_
      obtain ⟨hi_51, hw⟩ := hw
      refine v_iald dX6_minister_46 (mH_ar36 hb) hi_51 ?_
      refine v_iconst dX6_minister_47 ic_5 ?_
      refine v_irem dX6_minister_48 (by decide) ?_
      obtain ⟨hw_54, hw_55⟩ := hw
      refine v_if_eq (tgt := 59) dX6_minister_49 (by decide) (fun c_52 => ?_) (fun c_53 => ?_)
      · have hw := hw_54 c_52
        refine v_aload_n (q := 0) dX6_minister_59 rfl rfl ?_
        refine vm_get hb 36 (Nat.le_of_ble_eq_true rfl) q1650 rfl dX6_minister_60 rfl ?_
        refine v_iload_n (q := 1) dX6_minister_63 rfl rfl ?_
        obtain ⟨hi_56, hw⟩ := hw
        refine v_iald dX6_minister_64 (mH_ar36 hb) hi_56 ?_
        refine v_iconst dX6_minister_65 ic_5 ?_
        refine v_idiv dX6_minister_66 (by decide) ?_
        refine v_topi (fun z_57 e_57 => ?_)
        replace hw := hw z_57 e_57
        refine v_istore_n (lv1 := [(2, .int z_57), (0, va_rf (some (b 0))), (1, .int x1)]) dX6_minister_67 rfl (Nat.le_of_ble_eq_true rfl) rfl ?_
        refine v_iconst dX6_minister_68 ic_0 ?_
        refine v_istore_n (lv1 := [(3, .int (nI 0)), (2, .int z_57), (0, va_rf (some (b 0))), (1, .int x1)]) dX6_minister_69 rfl (Nat.le_of_ble_eq_true rfl) rfl ?_
        obtain ⟨n_58, hw⟩ := hw
        refine v_sub [2, 3, 1, 0] rfl ?_
        exact b_X6_minister_70 hb n_58 z_57 (nI 0) mi_40 ma ml hw
      · have hw := hw_55 c_53
        refine v_aload_n (q := 0) dX6_minister_52 rfl rfl ?_
        refine v_bipush dX6_minister_53 bp_m7 ?_
        refine v_callV q1737 q1739 qs53 q113 q1740 (ci := 7) rfl (mH_obj hb) n_X6_no ⟨Nat.le_of_ble_eq_true rfl, Nat.le_of_ble_eq_true rfl⟩ [.int (-7)] [] (met_X6_no hb hw) rfl (Nat.zero_le _) ⟨Nat.le_refl _, Nat.le_refl _⟩ dX6_minister_55 rfl (v_ki (fun z_59 h1 hv => ?_))
        clear hw
        obtain ⟨ma_60, rfl, hw⟩ := hv
        exact v_iret dX6_minister_58 rfl ⟨_, rfl, _, _, _, rfl, hw⟩
    · have hw := hw_50 c_48
      refine v_aload_n (q := 0) dX6_minister_34 rfl rfl ?_
      refine v_bipush dX6_minister_35 bp_m6 ?_
      refine v_callV q1737 q1739 qs53 q113 q1740 (ci := 7) rfl (mH_obj hb) n_X6_no ⟨Nat.le_of_ble_eq_true rfl, Nat.le_of_ble_eq_true rfl⟩ [.int (-6)] [] (met_X6_no hb hw) rfl (Nat.zero_le _) ⟨Nat.le_refl _, Nat.le_refl _⟩ dX6_minister_37 rfl (v_ki (fun z_61 h1 hv => ?_))
      clear hw
      obtain ⟨ma_62, rfl, hw⟩ := hv
      exact v_iret dX6_minister_40 rfl ⟨_, rfl, _, _, _, rfl, hw⟩
  · have hw := hw_45 c_43
    refine v_aload_n (q := 0) dX6_minister_17 rfl rfl ?_
    refine v_bipush dX6_minister_18 bp_m2 ?_
    refine v_callV q1737 q1739 qs53 q113 q1740 (ci := 7) rfl (mH_obj hb) n_X6_no ⟨Nat.le_of_ble_eq_true rfl, Nat.le_of_ble_eq_true rfl⟩ [.int (-2)] [] (met_X6_no hb hw) rfl (Nat.zero_le _) ⟨Nat.le_refl _, Nat.le_refl _⟩ dX6_minister_20 rfl (v_ki (fun z_63 h1 hv => ?_))
    clear hw
    obtain ⟨ma_64, rfl, hw⟩ := hv
    exact v_iret dX6_minister_23 rfl ⟨_, rfl, _, _, _, rfl, hw⟩
theorem met_X6_minister {post : (Int32) → (Nat → Int32) → (Nat → Nat → Int32) → (Nat → Nat → Int64) → Prop}   {x1 : Int32} {mi : Nat → Int32} {ma : Nat → Nat → Int32} {ml : Nat → Nat → Int64} (hb : mOK b)  (hw : w_X6_minister post  x1 mi ma ml) : Mt l E yX6_minister (ws_ yX6_minister cX6_minister 5 (some .int)) r_X6_minister [va_rf (some (b 0)), .int x1] (mH b mi ma ml) (vpi (fun (r : Int32) (h' : AH) => ∃ (mi' : Nat → Int32) (ma' : Nat → Nat → Int32) (ml' : Nat → Nat → Int64), h' = (mH b mi' ma' ml') ∧ post r mi' ma' ml')) := v_entry (by decide +kernel) (Nat.le_of_ble_eq_true rfl) rfl (fun _ => e_X6_minister hb hw)
/-! X6_isAnyEarly -/
abbrev r_X6_isAnyEarly : Room := { frames := 1, cells := 0, slots := 0, locals := 21 }
theorem n_X6_isAnyEarly : vdn yX6_isAnyEarly 0 := ⟨by decide +kernel, by decide +kernel, by decide +kernel⟩
def w_X6_isAnyEarly_31 (post : (Int32) → Prop) (k4 : (Int32) → (Int32) → Prop) (mi : Nat → Int32) (ma : Nat → Nat → Int32) (ml : Nat → Nat → Int64) (x2 : Int32) (s0 : Int32) : Prop :=
 (∀ z_1 : Int32, z_1 = x2 + (nI 1) → (k4 s0 z_1))
def w_X6_isAnyEarly_26 (post : (Int32) → Prop) (k4 : (Int32) → (Int32) → Prop) (mi : Nat → Int32) (ma : Nat → Nat → Int32) (ml : Nat → Nat → Int64) (x2 : Int32) : Prop :=
 (w_X6_isAnyEarly_31 post k4 mi ma ml x2 (nI 1))
def w_X6_isAnyEarly_4 (post : (Int32) → Prop) (mi : Nat → Int32) (ma : Nat → Nat → Int32) (ml : Nat → Nat → Int64) : Nat → (Int32) → (Int32) → Prop
 | 0, _, _ => False
 | n0 + 1, x1, x2 =>
 (vp_in (nI 0) 3372 ∧ (((ma 2 ((nI 0)).toNatClampNeg) ≤ x2 → ((x1 = nI 0 ∨ x1 = nI 1) ∧ post x1)) ∧ (¬ (ma 2 ((nI 0)).toNatClampNeg) ≤ x2 → ((¬ x1 = 0 → (w_X6_isAnyEarly_26 post (fun (q0 : Int32) (q1 : Int32) => w_X6_isAnyEarly_4 post mi ma ml n0 q0 q1) mi ma ml x2)) ∧ (x1 = 0 → (w_X6_isEarly (fun (z_12 : Int32) => ((z_12 = 0 → (w_X6_isAnyEarly_31 post (fun (q0 : Int32) (q1 : Int32) => w_X6_isAnyEarly_4 post mi ma ml n0 q0 q1) mi ma ml x2 (nI 0))) ∧ (¬ z_12 = 0 → (w_X6_isAnyEarly_26 post (fun (q0 : Int32) (q1 : Int32) => w_X6_isAnyEarly_4 post mi ma ml n0 q0 q1) mi ma ml x2)))) x2 mi ma ml))))))
def w_X6_isAnyEarly (post : (Int32) → Prop) (mi : Nat → Int32) (ma : Nat → Nat → Int32) (ml : Nat → Nat → Int64) : Prop :=
 (∃ n1 : Nat, (w_X6_isAnyEarly_4 post mi ma ml n1 (nI 0) (nI 0)))
theorem b_X6_isAnyEarly_31 {post : (Int32) → Prop}   {mi : Nat → Int32} {ma : Nat → Nat → Int32} {ml : Nat → Nat → Int64} {k4 : (Int32) → (Int32) → Prop} (hb : mOK b)  (hk4 : ∀ (x1 : Int32) (x2 : Int32), k4 x1 x2 → VV l E X cX6_isAnyEarly RX6 "isAnyEarly" 3 r_X6_isAnyEarly (some .boolean) (vpi (fun (r : Int32) (h' : AH) => h' = (mH b mi ma ml) ∧ post r)) (mH b mi ma ml) 0 0 4 [(0, va_rf (some (b 0))), (1, .int x1), (2, .int x2)] []) (x2 : Int32) (s0 : Int32) (hw : w_X6_isAnyEarly_31 post k4 mi ma ml x2 s0) : VV l E X cX6_isAnyEarly RX6 "isAnyEarly" 3 r_X6_isAnyEarly (some .boolean) (vpi (fun (r : Int32) (h' : AH) => h' = (mH b mi ma ml) ∧ post r)) (mH b mi ma ml) 0 0 31 [(0, va_rf (some (b 0))), (2, .int x2)] [.int s0] := by
  refine v_istore_n (lv1 := [(1, .int s0), (0, va_rf (some (b 0))), (2, .int x2)]) dX6_isAnyEarly_31 rfl (Nat.le_of_ble_eq_true rfl) rfl ?_
  obtain ⟨z_1, e_1⟩ : ∃ z9 : Int32, z9 = x2 + (nI 1) := ⟨_, rfl⟩
  replace hw := hw z_1 e_1
  refine v_iinc (q := 2) (v := z_1) (lv1 := [(2, .int z_1), (1, .int s0), (0, va_rf (some (b 0)))]) dX6_isAnyEarly_32 rfl (by rw [e_1, ic_1]) (Nat.le_of_ble_eq_true rfl) rfl ?_
  refine v_goto (tgt := 4) dX6_isAnyEarly_35 (by decide) ?_
  refine v_sub [2, 1, 0] rfl ?_
  exact hk4 s0 z_1 hw
theorem b_X6_isAnyEarly_26 {post : (Int32) → Prop}   {mi : Nat → Int32} {ma : Nat → Nat → Int32} {ml : Nat → Nat → Int64} {k4 : (Int32) → (Int32) → Prop} (hb : mOK b)  (hk4 : ∀ (x1 : Int32) (x2 : Int32), k4 x1 x2 → VV l E X cX6_isAnyEarly RX6 "isAnyEarly" 3 r_X6_isAnyEarly (some .boolean) (vpi (fun (r : Int32) (h' : AH) => h' = (mH b mi ma ml) ∧ post r)) (mH b mi ma ml) 0 0 4 [(0, va_rf (some (b 0))), (1, .int x1), (2, .int x2)] []) (x2 : Int32) (hw : w_X6_isAnyEarly_26 post k4 mi ma ml x2) : VV l E X cX6_isAnyEarly RX6 "isAnyEarly" 3 r_X6_isAnyEarly (some .boolean) (vpi (fun (r : Int32) (h' : AH) => h' = (mH b mi ma ml) ∧ post r)) (mH b mi ma ml) 0 0 26 [(0, va_rf (some (b 0))), (2, .int x2)] [] := by
  refine v_iconst dX6_isAnyEarly_26 ic_1 ?_
  refine v_goto (tgt := 31) dX6_isAnyEarly_27 (by decide) ?_
  refine v_sub [0, 1] rfl ?_
  exact b_X6_isAnyEarly_31 hb hk4 x2 (nI 1) hw
theorem b_X6_isAnyEarly_4 {post : (Int32) → Prop}   {mi : Nat → Int32} {ma : Nat → Nat → Int32} {ml : Nat → Nat → Int64}  (hb : mOK b)   : ∀ (n0 : Nat) (x1 : Int32) (x2 : Int32), w_X6_isAnyEarly_4 post mi ma ml n0 x1 x2 → VV l E X cX6_isAnyEarly RX6 "isAnyEarly" 3 r_X6_isAnyEarly (some .boolean) (vpi (fun (r : Int32) (h' : AH) => h' = (mH b mi ma ml) ∧ post r)) (mH b mi ma ml) 0 0 4 [(0, va_rf (some (b 0))), (1, .int x1), (2, .int x2)] [] := by
  intro n0
  induction n0 with
  | zero =>
    intro x1 x2 hw
    exact hw.elim
  | succ n0 ih =>
    intro x1 x2 hw
    refine v_iload_n (q := 2) dX6_isAnyEarly_4 rfl rfl ?_
    refine v_aload_n (q := 0) dX6_isAnyEarly_5 rfl rfl ?_
    refine vm_get hb 2 (Nat.le_of_ble_eq_true rfl) q1616 rfl dX6_isAnyEarly_6 rfl ?_
    refine v_iconst dX6_isAnyEarly_9 ic_0 ?_
    obtain ⟨hi_2, hw⟩ := hw
    refine v_iald dX6_isAnyEarly_10 (mH_ar2 hb) hi_2 ?_
    obtain ⟨hw_5, hw_6⟩ := hw
    refine v_icmp_ge (tgt := 38) dX6_isAnyEarly_11 (by decide) (fun c_3 => ?_) (fun c_4 => ?_)
    · have hw := hw_5 c_3
      refine v_iload_n (q := 1) dX6_isAnyEarly_38 rfl rfl ?_
      obtain ⟨hn_7, hw⟩ := hw
      exact v_zret dX6_isAnyEarly_39 rfl (v_z1 hn_7).1 ⟨_, rfl, rfl, hw⟩
    · have hw := hw_6 c_4
      refine v_iload_n (q := 1) dX6_isAnyEarly_14 rfl rfl ?_
      obtain ⟨hw_10, hw_11⟩ := hw
      refine v_if_ne (tgt := 26) dX6_isAnyEarly_15 (by decide) (fun c_8 => ?_) (fun c_9 => ?_)
      · have hw := hw_10 c_8
        refine v_sub [0, 2] rfl ?_
        exact b_X6_isAnyEarly_26 hb (fun q0 q1 z => ih q0 q1 z) x2 hw
      · have hw := hw_11 c_9
        refine v_aload_n (q := 0) dX6_isAnyEarly_18 rfl rfl ?_
        refine v_iload_n (q := 2) dX6_isAnyEarly_19 rfl rfl ?_
        refine v_callV q1915 q1917 qs80 q113 q1918 (ci := 7) rfl (mH_obj hb) n_X6_isEarly ⟨Nat.le_of_ble_eq_true rfl, Nat.le_of_ble_eq_true rfl⟩ [.int x2] [] (met_X6_isEarly hb hw) rfl (Nat.zero_le _) ⟨Nat.le_refl _, Nat.le_refl _⟩ dX6_isAnyEarly_20 rfl (v_ki (fun z_12 h1 hv => ?_))
        clear hw
        obtain ⟨e9, hw⟩ := hv
        refine v_heap e9 ?_
        clear e9
        obtain ⟨hw_15, hw_16⟩ := hw
        refine v_if_eq (tgt := 30) dX6_isAnyEarly_23 (by decide) (fun c_13 => ?_) (fun c_14 => ?_)
        · have hw := hw_15 c_13
          refine v_iconst dX6_isAnyEarly_30 ic_0 ?_
          refine v_sub [0, 2] rfl ?_
          exact b_X6_isAnyEarly_31 hb (fun q0 q1 z => ih q0 q1 z) x2 (nI 0) hw
        · have hw := hw_16 c_14
          refine v_sub [0, 2] rfl ?_
          exact b_X6_isAnyEarly_26 hb (fun q0 q1 z => ih q0 q1 z) x2 hw
theorem e_X6_isAnyEarly {post : (Int32) → Prop}   {mi : Nat → Int32} {ma : Nat → Nat → Int32} {ml : Nat → Nat → Int64} (hb : mOK b)  (hw : w_X6_isAnyEarly post  mi ma ml) : VV l E X cX6_isAnyEarly RX6 "isAnyEarly" 3 r_X6_isAnyEarly (some .boolean) (vpi (fun (r : Int32) (h' : AH) => h' = (mH b mi ma ml) ∧ post r)) (mH b mi ma ml) 0 0 0 [(0, va_rf (some (b 0)))] [] := by
  refine v_iconst dX6_isAnyEarly_0 ic_0 ?_
  refine v_istore_n (lv1 := [(1, .int (nI 0)), (0, va_rf (some (b 0)))]) dX6_isAnyEarly_1 rfl (Nat.le_of_ble_eq_true rfl) rfl ?_
  refine v_iconst dX6_isAnyEarly_2 ic_0 ?_
  refine v_istore_n (lv1 := [(2, .int (nI 0)), (1, .int (nI 0)), (0, va_rf (some (b 0)))]) dX6_isAnyEarly_3 rfl (Nat.le_of_ble_eq_true rfl) rfl ?_
  obtain ⟨n_17, hw⟩ := hw
  refine v_sub [2, 1, 0] rfl ?_
  exact b_X6_isAnyEarly_4 hb n_17 (nI 0) (nI 0) hw
theorem met_X6_isAnyEarly {post : (Int32) → Prop}   {mi : Nat → Int32} {ma : Nat → Nat → Int32} {ml : Nat → Nat → Int64} (hb : mOK b)  (hw : w_X6_isAnyEarly post  mi ma ml) : Mt l E yX6_isAnyEarly (ws_ yX6_isAnyEarly cX6_isAnyEarly 3 (some .boolean)) r_X6_isAnyEarly [va_rf (some (b 0))] (mH b mi ma ml) (vpi (fun (r : Int32) (h' : AH) => h' = (mH b mi ma ml) ∧ post r)) := v_entry (by decide +kernel) (Nat.le_of_ble_eq_true rfl) rfl (fun _ => e_X6_isAnyEarly hb hw)
/-! X6_say -/
abbrev r_X6_say : Room := { frames := 6, cells := 0, slots := 0, locals := 149 }
theorem n_X6_say : vdn yX6_say 1 := ⟨by decide +kernel, by decide +kernel, by decide +kernel⟩
def w_X6_say_52 (post : (Int32) → (Nat → Int32) → (Nat → Nat → Int32) → (Nat → Nat → Int64) → Prop) (x1 : Int32) (mi : Nat → Int32) (ma : Nat → Nat → Int32) (ml : Nat → Nat → Int64) : Prop :=
 (w_X6_smooths (fun (mi_1 : Nat → Int32) (ma_2 : Nat → Nat → Int32) (ml_3 : Nat → Nat → Int64) => (w_X6_whoseIs (fun (z_4 : Int32) (mi_5 : Nat → Int32) (ma_6 : Nat → Nat → Int32) => ((¬ z_4 = (nI 5) → (((nI 2) ≤ z_4 → (post z_4 mi_5 ma_6 ml_3)) ∧ (¬ (nI 2) ≤ z_4 → (post (nI 1) mi_5 ma_6 ml_3)))) ∧ (z_4 = (nI 5) → (vp_in ((nI 480) + x1) 2352 ∧ (w_X6_mostOfSongs (fun (z_16 : Int32) (ma_17 : Nat → Nat → Int32) => (vp_in (nI 248) 3372 ∧ ((z_16 < (ma_17 2 ((nI 248)).toNatClampNeg) → (post (nI 6) mi_5 ma_17 ml_3)) ∧ (¬ z_16 < (ma_17 2 ((nI 248)).toNatClampNeg) → (post (nI 5) mi_5 ma_17 ml_3))))) (ml_3 3 (((nI 480) + x1)).toNatClampNeg) (nI 0) mi_5 ma_6 ml_3))))) x1 mi_1 ma_2 ml_3)) mi ma ml)
def w_X6_say (post : (Int32) → (Nat → Int32) → (Nat → Nat → Int32) → (Nat → Nat → Int64) → Prop) (x1 : Int32) (mi : Nat → Int32) (ma : Nat → Nat → Int32) (ml : Nat → Nat → Int64) : Prop :=
 (∀ mi_23 : Nat → Int32, mi_23 = upd mi 0 (nI 0) → (vp_in (nI 162) 3372 ∧ (w_X6_within (fun (z_25 : Int32) => ((¬ z_25 = 0 → (vp_in (nI 223) 3372 ∧ ((¬ (ma 2 ((nI 223)).toNatClampNeg) = 0 → (w_X6_say_52 post x1 mi_23 ma ml)) ∧ ((ma 2 ((nI 223)).toNatClampNeg) = 0 → (w_X6_isAnyEarly (fun (z_35 : Int32) => ((¬ z_35 = 0 → (w_X6_say_52 post x1 mi_23 ma ml)) ∧ (z_35 = 0 → (post (nI 0) mi_23 ma ml)))) mi_23 ma ml))))) ∧ (z_25 = 0 → (w_X6_no (fun (z_40 : Int32) (ma_41 : Nat → Nat → Int32) => (post z_40 mi_23 ma_41 ml)) (-2) mi_23 ma ml)))) ((x1).toInt64) (lN 0) ((((ma 2 ((nI 162)).toNatClampNeg) - (nI 1))).toInt64))))
theorem b_X6_say_52 {post : (Int32) → (Nat → Int32) → (Nat → Nat → Int32) → (Nat → Nat → Int64) → Prop}   {x1 : Int32}  (hb : mOK b)   (mi : Nat → Int32) (ma : Nat → Nat → Int32) (ml : Nat → Nat → Int64) (hw : w_X6_say_52 post x1 mi ma ml) : VV l E X cX6_say RX6 "say" 3 r_X6_say (some .int) (vpi (fun (r : Int32) (h' : AH) => ∃ (mi' : Nat → Int32) (ma' : Nat → Nat → Int32) (ml' : Nat → Nat → Int64), h' = (mH b mi' ma' ml') ∧ post r mi' ma' ml')) (mH b mi ma ml) 0 0 52 [(0, va_rf (some (b 0))), (1, .int x1)] [] := by
  refine v_aload_n (q := 0) dX6_say_52 rfl rfl ?_
  refine v_callV q1911 q1913 qs79 q113 q1914 (ci := 7) rfl (mH_obj hb) n_X6_smooths ⟨Nat.le_of_ble_eq_true rfl, Nat.le_of_ble_eq_true rfl⟩ [] [] (met_X6_smooths hb hw) rfl (Nat.zero_le _) ⟨Nat.le_refl _, Nat.le_refl _⟩ dX6_say_53 rfl (v_kv (fun h1 hv => ?_))
  clear hw
  obtain ⟨mi_1, ma_2, ml_3, rfl, hw⟩ := hv
  refine v_aload_n (q := 0) dX6_say_56 rfl rfl ?_
  refine v_iload_n (q := 1) dX6_say_57 rfl rfl ?_
  refine v_callV q1919 q1921 qs81 q113 q1922 (ci := 7) rfl (mH_obj hb) n_X6_whoseIs ⟨Nat.le_of_ble_eq_true rfl, Nat.le_of_ble_eq_true rfl⟩ [.int x1] [] (met_X6_whoseIs hb hw) rfl (Nat.zero_le _) ⟨Nat.le_refl _, Nat.le_refl _⟩ dX6_say_58 rfl (v_ki (fun z_4 h1 hv => ?_))
  clear hw
  obtain ⟨mi_5, ma_6, rfl, hw⟩ := hv
  refine v_istore_n (lv1 := [(2, .int z_4), (0, va_rf (some (b 0))), (1, .int x1)]) dX6_say_61 rfl (Nat.le_of_ble_eq_true rfl) rfl ?_
  refine v_iload_n (q := 0) dX6_say_62 rfl rfl ?_
  refine v_iconst dX6_say_63 ic_5 ?_
  obtain ⟨hw_9, hw_10⟩ := hw
  refine v_icmp_ne (tgt := 100) dX6_say_64 (by decide) (fun c_7 => ?_) (fun c_8 => ?_)
  · have hw := hw_9 c_7
    refine v_iload_n (q := 0) dX6_say_100 rfl rfl ?_
    refine v_iconst dX6_say_101 ic_2 ?_
    obtain ⟨hw_13, hw_14⟩ := hw
    refine v_icmp_ge (tgt := 109) dX6_say_102 (by decide) (fun c_11 => ?_) (fun c_12 => ?_)
    · have hw := hw_13 c_11
      refine v_iload_n (q := 0) dX6_say_109 rfl rfl ?_
      exact v_iret dX6_say_110 rfl ⟨_, rfl, _, _, _, rfl, hw⟩
    · have hw := hw_14 c_12
      refine v_iconst dX6_say_105 ic_1 ?_
      refine v_goto (tgt := 110) dX6_say_106 (by decide) ?_
      exact v_iret dX6_say_110 rfl ⟨_, rfl, _, _, _, rfl, hw⟩
  · have hw := hw_10 c_8
    refine v_aload_n (q := 1) dX6_say_67 rfl rfl ?_
    refine v_aload_n (q := 1) dX6_say_68 rfl rfl ?_
    refine vm_get hb 3 (Nat.le_of_ble_eq_true rfl) q1617 rfl dX6_say_69 rfl ?_
    refine v_sipush dX6_say_72 sp_480 ?_
    refine v_iload_n (q := 2) dX6_say_75 rfl rfl ?_
    refine v_iadd dX6_say_76 ?_
    obtain ⟨hi_15, hw⟩ := hw
    refine v_lald dX6_say_77 (mH_ar3 hb) hi_15 ?_
    refine v_iconst dX6_say_78 ic_0 ?_
    refine v_callV q1935 q1937 qs84 q113 q1938 (ci := 7) rfl (mH_obj hb) n_X6_mostOfSongs ⟨Nat.le_of_ble_eq_true rfl, Nat.le_of_ble_eq_true rfl⟩ [.long (ml_3 3 (((nI 480) + x1)).toNatClampNeg), .int (nI 0)] [] (met_X6_mostOfSongs hb hw) rfl (Nat.zero_le _) ⟨Nat.le_refl _, Nat.le_refl _⟩ dX6_say_79 rfl (v_ki (fun z_16 h1 hv => ?_))
    clear hw
    obtain ⟨ma_17, rfl, hw⟩ := hv
    refine v_aload_n (q := 1) dX6_say_82 rfl rfl ?_
    refine vm_get hb 2 (Nat.le_of_ble_eq_true rfl) q1616 rfl dX6_say_83 rfl ?_
    refine v_sipush dX6_say_86 sp_248 ?_
    obtain ⟨hi_18, hw⟩ := hw
    refine v_iald dX6_say_89 (mH_ar2 hb) hi_18 ?_
    obtain ⟨hw_21, hw_22⟩ := hw
    refine v_icmp_lt (tgt := 97) dX6_say_90 (by decide) (fun c_19 => ?_) (fun c_20 => ?_)
    · have hw := hw_21 c_19
      refine v_bipush dX6_say_97 bp_6 ?_
      exact v_iret dX6_say_99 rfl ⟨_, rfl, _, _, _, rfl, hw⟩
    · have hw := hw_22 c_20
      refine v_iconst dX6_say_93 ic_5 ?_
      refine v_goto (tgt := 99) dX6_say_94 (by decide) ?_
      exact v_iret dX6_say_99 rfl ⟨_, rfl, _, _, _, rfl, hw⟩
theorem e_X6_say {post : (Int32) → (Nat → Int32) → (Nat → Nat → Int32) → (Nat → Nat → Int64) → Prop}   {x1 : Int32} {mi : Nat → Int32} {ma : Nat → Nat → Int32} {ml : Nat → Nat → Int64} (hb : mOK b)  (hw : w_X6_say post  x1 mi ma ml) : VV l E X cX6_say RX6 "say" 3 r_X6_say (some .int) (vpi (fun (r : Int32) (h' : AH) => ∃ (mi' : Nat → Int32) (ma' : Nat → Nat → Int32) (ml' : Nat → Nat → Int64), h' = (mH b mi' ma' ml') ∧ post r mi' ma' ml')) (mH b mi ma ml) 0 0 0 [(0, va_rf (some (b 0))), (1, .int x1)] [] := by
  refine v_aload_n (q := 0) dX6_say_0 rfl rfl ?_
  refine v_iconst dX6_say_1 ic_0 ?_
  obtain ⟨mi_23, emi_23⟩ : ∃ z9 : Nat → Int32, z9 = upd mi 0 (nI 0) := ⟨_, rfl⟩
  replace hw := hw mi_23 emi_23
  refine vm_put hb 0 (Nat.le_of_ble_eq_true rfl) q1614 rfl rfl rfl dX6_say_2 emi_23 rfl ?_
  refine v_iload_n (q := 1) dX6_say_5 rfl rfl ?_
  refine v_i2l dX6_say_6 ?_
  refine v_lconst (v := lN 0) dX6_say_7 rfl ?_
  refine v_aload_n (q := 0) dX6_say_8 rfl rfl ?_
  refine vm_get hb 2 (Nat.le_of_ble_eq_true rfl) q1616 rfl dX6_say_9 rfl ?_
  refine v_sipush dX6_say_12 sp_162 ?_
  obtain ⟨hi_24, hw⟩ := hw
  refine v_iald dX6_say_15 (mH_ar2 hb) hi_24 ?_
  refine v_iconst dX6_say_16 ic_1 ?_
  refine v_isub dX6_say_17 ?_
  refine v_i2l dX6_say_18 ?_
  refine v_callS q1734 q1735 q113 q1736 n_X6_within ⟨Nat.le_of_ble_eq_true rfl, Nat.le_of_ble_eq_true rfl⟩ [.long ((x1).toInt64), .long (lN 0), .long ((((ma 2 ((nI 162)).toNatClampNeg) - (nI 1))).toInt64)] [] (met_X6_within hw) rfl (Nat.zero_le _) ⟨Nat.le_refl _, Nat.le_refl _⟩ dX6_say_19 rfl (v_ki (fun z_25 h1 hv => ?_))
  clear hw
  obtain ⟨e9, hw⟩ := hv
  refine v_heap e9 ?_
  clear e9
  obtain ⟨hw_28, hw_29⟩ := hw
  refine v_if_ne (tgt := 32) dX6_say_22 (by decide) (fun c_26 => ?_) (fun c_27 => ?_)
  · have hw := hw_28 c_26
    refine v_aload_n (q := 0) dX6_say_32 rfl rfl ?_
    refine vm_get hb 2 (Nat.le_of_ble_eq_true rfl) q1616 rfl dX6_say_33 rfl ?_
    refine v_sipush dX6_say_36 sp_223 ?_
    obtain ⟨hi_30, hw⟩ := hw
    refine v_iald dX6_say_39 (mH_ar2 hb) hi_30 ?_
    obtain ⟨hw_33, hw_34⟩ := hw
    refine v_if_ne (tgt := 52) dX6_say_40 (by decide) (fun c_31 => ?_) (fun c_32 => ?_)
    · have hw := hw_33 c_31
      refine v_sub [0, 1] rfl ?_
      exact b_X6_say_52 hb mi_23 ma ml hw
    · have hw := hw_34 c_32
      refine v_aload_n (q := 0) dX6_say_43 rfl rfl ?_
      refine v_callV q2138 q2140 qs101 q113 q2141 (ci := 7) rfl (mH_obj hb) n_X6_isAnyEarly ⟨Nat.le_of_ble_eq_true rfl, Nat.le_of_ble_eq_true rfl⟩ [] [] (met_X6_isAnyEarly hb hw) rfl (Nat.zero_le _) ⟨Nat.le_refl _, Nat.le_refl _⟩ dX6_say_44 rfl (v_ki (fun z_35 h1 hv => ?_))
      clear hw
      obtain ⟨e9, hw⟩ := hv
      refine v_heap e9 ?_
      clear e9
      obtain ⟨hw_38, hw_39⟩ := hw
      refine v_if_ne (tgt := 52) dX6_say_47 (by decide) (fun c_36 => ?_) (fun c_37 => ?_)
      · have hw := hw_38 c_36
        refine v_sub [0, 1] rfl ?_
        exact b_X6_say_52 hb mi_23 ma ml hw
      · have hw := hw_39 c_37
        refine v_iconst dX6_say_50 ic_0 ?_
        exact v_iret dX6_say_51 rfl ⟨_, rfl, _, _, _, rfl, hw⟩
  · have hw := hw_29 c_27
    refine v_aload_n (q := 0) dX6_say_25 rfl rfl ?_
    refine v_bipush dX6_say_26 bp_m2 ?_
    refine v_callV q1737 q1739 qs53 q113 q1740 (ci := 7) rfl (mH_obj hb) n_X6_no ⟨Nat.le_of_ble_eq_true rfl, Nat.le_of_ble_eq_true rfl⟩ [.int (-2)] [] (met_X6_no hb hw) rfl (Nat.zero_le _) ⟨Nat.le_refl _, Nat.le_refl _⟩ dX6_say_28 rfl (v_ki (fun z_40 h1 hv => ?_))
    clear hw
    obtain ⟨ma_41, rfl, hw⟩ := hv
    exact v_iret dX6_say_31 rfl ⟨_, rfl, _, _, _, rfl, hw⟩
theorem met_X6_say {post : (Int32) → (Nat → Int32) → (Nat → Nat → Int32) → (Nat → Nat → Int64) → Prop}   {x1 : Int32} {mi : Nat → Int32} {ma : Nat → Nat → Int32} {ml : Nat → Nat → Int64} (hb : mOK b)  (hw : w_X6_say post  x1 mi ma ml) : Mt l E yX6_say (ws_ yX6_say cX6_say 3 (some .int)) r_X6_say [va_rf (some (b 0)), .int x1] (mH b mi ma ml) (vpi (fun (r : Int32) (h' : AH) => ∃ (mi' : Nat → Int32) (ma' : Nat → Nat → Int32) (ml' : Nat → Nat → Int64), h' = (mH b mi' ma' ml') ∧ post r mi' ma' ml')) := v_entry (by decide +kernel) (Nat.le_of_ble_eq_true rfl) rfl (fun _ => e_X6_say hb hw)
end WALK
