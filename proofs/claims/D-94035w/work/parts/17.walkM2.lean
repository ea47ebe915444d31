set_option maxRecDepth 100000
section WALK
variable {l : Launch} {E : VE} {X : VX} {b : Nat → Nat}
/-! X6_stands -/
abbrev r_X6_stands : Room := { frames := 0, cells := 0, slots := 0, locals := 0 }
theorem n_X6_stands : vdn yX6_stands 1 := ⟨by decide +kernel, by decide +kernel, by decide +kernel⟩
def w_X6_stands_73 (post : (Int32) → Prop) (k2 : (Int32) → Prop) (k25 : (Int32) → (Int32) → (Int32) → Prop) (x1 : Int32) (mi : Nat → Int32) (ma : Nat → Nat → Int32) (ml : Nat → Nat → Int64) (x2 : Int32) (x4 : Int32) (s0 : Int32) : Prop :=
 (∀ z_1 : Int32, z_1 = x4 + (nI 1) → (k25 x2 s0 z_1))
def w_X6_stands_72 (post : (Int32) → Prop) (k2 : (Int32) → Prop) (k25 : (Int32) → (Int32) → (Int32) → Prop) (x1 : Int32) (mi : Nat → Int32) (ma : Nat → Nat → Int32) (ml : Nat → Nat → Int64) (x2 : Int32) (x4 : Int32) : Prop :=
 (w_X6_stands_73 post k2 k25 x1 mi ma ml x2 x4 (nI 0))
def w_X6_stands_25 (post : (Int32) → Prop) (k2 : (Int32) → Prop) (x1 : Int32) (mi : Nat → Int32) (ma : Nat → Nat → Int32) (ml : Nat → Nat → Int64) : Nat → (Int32) → (Int32) → (Int32) → Prop
 | 0, _, _, _ => False
 | n0 + 1, x2, x3, x4 =>
 (vp_in ((nI 97) + x1) 2580 ∧ (((ma 6 (((nI 97) + x1)).toNatClampNeg) ≤ x4 → ((x3 = 0 → (∀ z_11 : Int32, z_11 = x2 + (nI 1) → (k2 z_11))) ∧ (¬ x3 = 0 → (post x2)))) ∧ (¬ (ma 6 (((nI 97) + x1)).toNatClampNeg) ≤ x4 → ((x3 = 0 → (w_X6_stands_72 post k2 (fun (q0 : Int32) (q1 : Int32) (q2 : Int32) => w_X6_stands_25 post k2 x1 mi ma ml n0 q0 q1 q2) x1 mi ma ml x2 x4)) ∧ (¬ x3 = 0 → (vp_in (x2 + x4) 8 ∧ (vp_in (((nI 1) + ((nI 4) * x1)) + x4) 2580 ∧ ((¬ (ma 21 ((x2 + x4)).toNatClampNeg) = (ma 6 ((((nI 1) + ((nI 4) * x1)) + x4)).toNatClampNeg) → (w_X6_stands_72 post k2 (fun (q0 : Int32) (q1 : Int32) (q2 : Int32) => w_X6_stands_25 post k2 x1 mi ma ml n0 q0 q1 q2) x1 mi ma ml x2 x4)) ∧ ((ma 21 ((x2 + x4)).toNatClampNeg) = (ma 6 ((((nI 1) + ((nI 4) * x1)) + x4)).toNatClampNeg) → (w_X6_stands_73 post k2 (fun (q0 : Int32) (q1 : Int32) (q2 : Int32) => w_X6_stands_25 post k2 x1 mi ma ml n0 q0 q1 q2) x1 mi ma ml x2 x4 (nI 1)))))))))))
def w_X6_stands_2 (post : (Int32) → Prop) (x1 : Int32) (mi : Nat → Int32) (ma : Nat → Nat → Int32) (ml : Nat → Nat → Int64) : Nat → (Int32) → Prop
 | 0, _ => False
 | n0 + 1, x2 =>
 (vp_in ((nI 97) + x1) 2580 ∧ (((mi 23) < (x2 + (ma 6 (((nI 97) + x1)).toNatClampNeg)) → (post (-1))) ∧ (¬ (mi 23) < (x2 + (ma 6 (((nI 97) + x1)).toNatClampNeg)) → (∃ n1 : Nat, (w_X6_stands_25 post (fun (q0 : Int32) => w_X6_stands_2 post x1 mi ma ml n0 q0) x1 mi ma ml n1 x2 (nI 1) (nI 0))))))
def w_X6_stands (post : (Int32) → Prop) (x1 : Int32) (mi : Nat → Int32) (ma : Nat → Nat → Int32) (ml : Nat → Nat → Int64) : Prop :=
 (∃ n1 : Nat, (w_X6_stands_2 post x1 mi ma ml n1 (nI 0)))
theorem b_X6_stands_73 {post : (Int32) → Prop}   {x1 : Int32} {mi : Nat → Int32} {ma : Nat → Nat → Int32} {ml : Nat → Nat → Int64} {k2 : (Int32) → Prop} {k25 : (Int32) → (Int32) → (Int32) → Prop} (hb : mOK b)  (hk2 : ∀ (x2 : Int32), k2 x2 → VV l E X cX6_stands RX6 "stands" 5 r_X6_stands (some .int) (vpi (fun (r : Int32) (h' : AH) => h' = (mH b mi ma ml) ∧ post r)) (mH b mi ma ml) 0 0 2 [(0, va_rf (some (b 0))), (1, .int x1), (2, .int x2)] []) (hk25 : ∀ (x2 : Int32) (x3 : Int32) (x4 : Int32), k25 x2 x3 x4 → VV l E X cX6_stands RX6 "stands" 5 r_X6_stands (some .int) (vpi (fun (r : Int32) (h' : AH) => h' = (mH b mi ma ml) ∧ post r)) (mH b mi ma ml) 0 0 25 [(0, va_rf (some (b 0))), (1, .int x1), (2, .int x2), (3, .int x3), (4, .int x4)] []) (x2 : Int32) (x4 : Int32) (s0 : Int32) (hw : w_X6_stands_73 post k2 k25 x1 mi ma ml x2 x4 s0) : VV l E X cX6_stands RX6 "stands" 5 r_X6_stands (some .int) (vpi (fun (r : Int32) (h' : AH) => h' = (mH b mi ma ml) ∧ post r)) (mH b mi ma ml) 0 0 73 [(0, va_rf (some (b 0))), (1, .int x1), (2, .int x2), (4, .int x4)] [.int s0] := by
  refine v_istore_n (lv1 := [(3, .int s0), (0, va_rf (some (b 0))), (1, .int x1), (2, .int x2), (4, .int x4)]) dX6_stands_73 rfl (Nat.le_of_ble_eq_true rfl) rfl ?_
  obtain ⟨z_1, e_1⟩ : ∃ z9 : Int32, z9 = x4 + (nI 1) := ⟨_, rfl⟩
  replace hw := hw z_1 e_1
  refine v_iinc (q := 4) (v := z_1) (lv1 := [(4, .int z_1), (3, .int s0), (0, va_rf (some (b 0))), (1, .int x1), (2, .int x2)]) dX6_stands_74 rfl (by rw [e_1, ic_1]) (Nat.le_of_ble_eq_true rfl) rfl ?_
  refine v_goto (tgt := 25) dX6_stands_77 (by decide) ?_
  refine v_sub [2, 3, 4, 1, 0] rfl ?_
  exact hk25 x2 s0 z_1 hw
theorem b_X6_stands_72 {post : (Int32) → Prop}   {x1 : Int32} {mi : Nat → Int32} {ma : Nat → Nat → Int32} {ml : Nat → Nat → Int64} {k2 : (Int32) → Prop} {k25 : (Int32) → (Int32) → (Int32) → Prop} (hb : mOK b)  (hk2 : ∀ (x2 : Int32), k2 x2 → VV l E X cX6_stands RX6 "stands" 5 r_X6_stands (some .int) (vpi (fun (r : Int32) (h' : AH) => h' = (mH b mi ma ml) ∧ post r)) (mH b mi ma ml) 0 0 2 [(0, va_rf (some (b 0))), (1, .int x1), (2, .int x2)] []) (hk25 : ∀ (x2 : Int32) (x3 : Int32) (x4 : Int32), k25 x2 x3 x4 → VV l E X cX6_stands RX6 "stands" 5 r_X6_stands (some .int) (vpi (fun (r : Int32) (h' : AH) => h' = (mH b mi ma ml) ∧ post r)) (mH b mi ma ml) 0 0 25 [(0, va_rf (some (b 0))), (1, .int x1), (2, .int x2), (3, .int x3), (4, .int x4)] []) (x2 : Int32) (x4 : Int32) (hw : w_X6_stands_72 post k2 k25 x1 mi ma ml x2 x4) : VV l E X cX6_stands RX6 "stands" 5 r_X6_stands (some .int) (vpi (fun (r : Int32) (h' : AH) => h' = (mH b mi ma ml) ∧ post r)) (mH b mi ma ml) 0 0 72 [(0, va_rf (some (b 0))), (1, .int x1), (2, .int x2), (4, .int x4)] [] := by
  refine v_iconst dX6_stands_72 ic_0 ?_
  refine v_sub [0, 1, 2, 3] rfl ?_
  exact b_X6_stands_73 hb hk2 hk25 x2 x4 (nI 0) hw
theorem b_X6_stands_25 {post : (Int32) → Prop}   {x1 : Int32} {mi : Nat → Int32} {ma : Nat → Nat → Int32} {ml : Nat → Nat → Int64} {k2 : (Int32) → Prop} (hb : mOK b)  (hk2 : ∀ (x2 : Int32), k2 x2 → VV l E X cX6_stands RX6 "stands" 5 r_X6_stands (some .int) (vpi (fun (r : Int32) (h' : AH) => h' = (mH b mi ma ml) ∧ post r)) (mH b mi ma ml) 0 0 2 [(0, va_rf (some (b 0))), (1, .int x1), (2, .int x2)] []) : ∀ (n0 : Nat) (x2 : Int32) (x3 : Int32) (x4 : Int32), w_X6_stands_25 post k2 x1 mi ma ml n0 x2 x3 x4 → VV l E X cX6_stands RX6 "stands" 5 r_X6_stands (some .int) (vpi (fun (r : Int32) (h' : AH) => h' = (mH b mi ma ml) ∧ post r)) (mH b mi ma ml) 0 0 25 [(0, va_rf (some (b 0))), (1, .int x1), (2, .int x2), (3, .int x3), (4, .int x4)] [] := by
  intro n0
  induction n0 with
  | zero =>
    intro x2 x3 x4 hw
    exact hw.elim
  | succ n0 ih =>
    intro x2 x3 x4 hw
    refine v_iload (q := 4) dX6_stands_25 rfl ?_
    refine v_aload_n (q := 0) dX6_stands_27 rfl rfl ?_
    refine vm_get hb 6 (Nat.le_of_ble_eq_true rfl) q1620 rfl dX6_stands_28 rfl ?_
    refine v_bipush dX6_stands_31 bp_97 ?_
    refine v_iload_n (q := 1) dX6_stands_33 rfl rfl ?_
    refine v_iadd dX6_stands_34 ?_
    obtain ⟨hi_2, hw⟩ := hw
    refine v_iald dX6_stands_35 (mH_ar6 hb) hi_2 ?_
    obtain ⟨hw_5, hw_6⟩ := hw
    refine v_icmp_ge (tgt := 80) dX6_stands_36 (by decide) (fun c_3 => ?_) (fun c_4 => ?_)
    · have hw := hw_5 c_3
      refine v_iload_n (q := 3) dX6_stands_80 rfl rfl ?_
      obtain ⟨hw_9, hw_10⟩ := hw
      refine v_if_eq (tgt := 86) dX6_stands_81 (by decide) (fun c_7 => ?_) (fun c_8 => ?_)
      · have hw := hw_9 c_7
        obtain ⟨z_11, e_11⟩ : ∃ z9 : Int32, z9 = x2 + (nI 1) := ⟨_, rfl⟩
        replace hw := hw z_11 e_11
        refine v_iinc (q := 2) (v := z_11) (lv1 := [(2, .int z_11), (0, va_rf (some (b 0))), (1, .int x1), (3, .int x3), (4, .int x4)]) dX6_stands_86 rfl (by rw [e_11, ic_1]) (Nat.le_of_ble_eq_true rfl) rfl ?_
        refine v_goto (tgt := 2) dX6_stands_89 (by decide) ?_
        refine v_sub [1, 2, 0] rfl ?_
        exact hk2 z_11 hw
      · have hw := hw_10 c_8
        refine v_iload_n (q := 2) dX6_stands_84 rfl rfl ?_
        exact v_iret dX6_stands_85 rfl ⟨_, rfl, rfl, hw⟩
    · have hw := hw_6 c_4
      refine v_iload_n (q := 3) dX6_stands_39 rfl rfl ?_
      obtain ⟨hw_14, hw_15⟩ := hw
      refine v_if_eq (tgt := 72) dX6_stands_40 (by decide) (fun c_12 => ?_) (fun c_13 => ?_)
      · have hw := hw_14 c_12
        refine v_sub [0, 1, 2, 4] rfl ?_
        exact b_X6_stands_72 hb hk2 (fun q0 q1 q2 z => ih q0 q1 q2 z) x2 x4 hw
      · have hw := hw_15 c_13
        refine v_aload_n (q := 0) dX6_stands_43 rfl rfl ?_
        refine vm_get hb 21 (Nat.le_of_ble_eq_true rfl) q1635 rfl dX6_stands_44 rfl ?_
        refine v_iload_n (q := 2) dX6_stands_47 rfl rfl ?_
        refine v_iload (q := 4) dX6_stands_48 rfl ?_
        refine v_iadd dX6_stands_50 ?_
        obtain ⟨hi_16, hw⟩ := hw
        refine v_iald dX6_stands_51 (mH_ar21 hb) hi_16 ?_
        refine v_aload_n (q := 0) dX6_stands_52 rfl rfl ?_
        refine vm_get hb 6 (Nat.le_of_ble_eq_true rfl) q1620 rfl dX6_stands_53 rfl ?_
        refine v_iconst dX6_stands_56 ic_1 ?_
        refine v_iconst dX6_stands_57 ic_4 ?_
        refine v_iload_n (q := 1) dX6_stands_58 rfl rfl ?_
        refine v_imul dX6_stands_59 ?_
        refine v_iadd dX6_stands_60 ?_
        refine v_iload (q := 4) dX6_stands_61 rfl ?_
        refine v_iadd dX6_stands_63 ?_
        obtain ⟨hi_17, hw⟩ := hw
        refine v_iald dX6_stands_64 (mH_ar6 hb) hi_17 ?_
        obtain ⟨hw_20, hw_21⟩ := hw
        refine v_icmp_ne (tgt := 72) dX6_stands_65 (by decide) (fun c_18 => ?_) (fun c_19 => ?_)
        · have hw := hw_20 c_18
          refine v_sub [0, 1, 2, 4] rfl ?_
          exact b_X6_stands_72 hb hk2 (fun q0 q1 q2 z => ih q0 q1 q2 z) x2 x4 hw
        · have hw := hw_21 c_19
          refine v_iconst dX6_stands_68 ic_1 ?_
          refine v_goto (tgt := 73) dX6_stands_69 (by decide) ?_
          refine v_sub [0, 1, 2, 4] rfl ?_
          exact b_X6_stands_73 hb hk2 (fun q0 q1 q2 z => ih q0 q1 q2 z) x2 x4 (nI 1) hw
theorem b_X6_stands_2 {post : (Int32) → Prop}   {x1 : Int32} {mi : Nat → Int32} {ma : Nat → Nat → Int32} {ml : Nat → Nat → Int64}  (hb : mOK b)   : ∀ (n0 : Nat) (x2 : Int32), w_X6_stands_2 post x1 mi ma ml n0 x2 → VV l E X cX6_stands RX6 "stands" 5 r_X6_stands (some .int) (vpi (fun (r : Int32) (h' : AH) => h' = (mH b mi ma ml) ∧ post r)) (mH b mi ma ml) 0 0 2 [(0, va_rf (some (b 0))), (1, .int x1), (2, .int x2)] [] := by
  intro n0
  induction n0 with
  | zero =>
    intro x2 hw
    exact hw.elim
  | succ n0 ih =>
    intro x2 hw
    refine v_iload_n (q := 2) dX6_stands_2 rfl rfl ?_
    refine v_aload_n (q := 0) dX6_stands_3 rfl rfl ?_
    refine vm_get hb 6 (Nat.le_of_ble_eq_true rfl) q1620 rfl dX6_stands_4 rfl ?_
    refine v_bipush dX6_stands_7 bp_97 ?_
    refine v_iload_n (q := 1) dX6_stands_9 rfl rfl ?_
    refine v_iadd dX6_stands_10 ?_
    obtain ⟨hi_22, hw⟩ := hw
    refine v_iald dX6_stands_11 (mH_ar6 hb) hi_22 ?_
    refine v_iadd dX6_stands_12 ?_
    refine v_aload_n (q := 0) dX6_stands_13 rfl rfl ?_
    refine vm_get hb 23 (Nat.le_of_ble_eq_true rfl) q1637 rfl dX6_stands_14 rfl ?_
    obtain ⟨hw_25, hw_26⟩ := hw
    refine v_icmp_gt (tgt := 92) dX6_stands_17 (by decide) (fun c_23 => ?_) (fun c_24 => ?_)
    · have hw := hw_25 c_23
      refine v_iconst dX6_stands_92 ic_m1 ?_
      exact v_iret dX6_stands_93 rfl ⟨_, rfl, rfl, hw⟩
    · have hw := hw_26 c_24
      refine v_iconst dX6_stands_20 ic_1 ?_
      refine v_istore_n (lv1 := [(3, .int (nI 1)), (0, va_rf (some (b 0))), (1, .int x1), (2, .int x2)]) dX6_stands_21 rfl (Nat.le_of_ble_eq_true rfl) rfl ?_
      refine v_iconst dX6_stands_22 ic_0 ?_
      refine v_istore (lv1 := [(4, .int (nI 0)), (3, .int (nI 1)), (0, va_rf (some (b 0))), (1, .int x1), (2, .int x2)]) dX6_stands_23 (Nat.le_of_ble_eq_true rfl) rfl ?_
      obtain ⟨n_27, hw⟩ := hw
      refine v_sub [2, 3, 4, 1, 0] rfl ?_
      exact b_X6_stands_25 hb (fun q0 z => ih q0 z) n_27 x2 (nI 1) (nI 0) hw
theorem e_X6_stands {post : (Int32) → Prop}   {x1 : Int32} {mi : Nat → Int32} {ma : Nat → Nat → Int32} {ml : Nat → Nat → Int64} (hb : mOK b)  (hw : w_X6_stands post  x1 mi ma ml) : VV l E X cX6_stands RX6 "stands" 5 r_X6_stands (some .int) (vpi (fun (r : Int32) (h' : AH) => h' = (mH b mi ma ml) ∧ post r)) (mH b mi ma ml) 0 0 0 [(0, va_rf (some (b 0))), (1, .int x1)] [] := by
  refine v_iconst dX6_stands_0 ic_0 ?_
  refine v_istore_n (lv1 := [(2, .int (nI 0)), (0, va_rf (some (b 0))), (1, .int x1)]) dX6_stands_1 rfl (Nat.le_of_ble_eq_true rfl) rfl ?_
  obtain ⟨n_28, hw⟩ := hw
  refine v_sub [1, 2, 0] rfl ?_
  exact b_X6_stands_2 hb n_28 (nI 0) hw
theorem met_X6_stands {post : (Int32) → Prop}   {x1 : Int32} {mi : Nat → Int32} {ma : Nat → Nat → Int32} {ml : Nat → Nat → Int64} (hb : mOK b)  (hw : w_X6_stands post  x1 mi ma ml) : Mt l E yX6_stands (ws_ yX6_stands cX6_stands 5 (some .int)) r_X6_stands [va_rf (some (b 0)), .int x1] (mH b mi ma ml) (vpi (fun (r : Int32) (h' : AH) => h' = (mH b mi ma ml) ∧ post r)) := v_entry (by decide +kernel) (Nat.le_of_ble_eq_true rfl) rfl (fun _ => e_X6_stands hb hw)
/-! X6_does -/
abbrev r_X6_does : Room := { frames := 2, cells := 0, slots := 0, locals := 49 }
theorem n_X6_does : vdn yX6_does 2 := ⟨by decide +kernel, by decide +kernel, by decide +kernel⟩
def w_X6_does_184 (post : (Int32) → (Nat → Int32) → (Nat → Nat → Int32) → Prop) (k86 : (Int32) → (Int32) → (Int32) → (Int32) → (Int32) → (Int32) → (Nat → Int32) → (Nat → Nat → Int32) → Prop) (x1 : Int32) (x2 : Int32) (ml : Nat → Nat → Int64) (x3 : Int32) (x4 : Int32) (x5 : Int32) (x6 : Int32) (x8 : Int32) (s0 : Int32) (mi : Nat → Int32) (ma : Nat → Nat → Int32) : Prop :=
 (∀ z_1 : Int32, z_1 = x8 + (nI 1) → (k86 x3 x4 x5 x6 s0 z_1 mi ma))
def w_X6_does_179 (post : (Int32) → (Nat → Int32) → (Nat → Nat → Int32) → Prop) (k86 : (Int32) → (Int32) → (Int32) → (Int32) → (Int32) → (Int32) → (Nat → Int32) → (Nat → Nat → Int32) → Prop) (x1 : Int32) (x2 : Int32) (ml : Nat → Nat → Int64) (x3 : Int32) (x4 : Int32) (x5 : Int32) (x6 : Int32) (x8 : Int32) (mi : Nat → Int32) (ma : Nat → Nat → Int32) : Prop :=
 (w_X6_does_184 post k86 x1 x2 ml x3 x4 x5 x6 x8 (nI 1) mi ma)
def w_X6_does_156 (post : (Int32) → (Nat → Int32) → (Nat → Nat → Int32) → Prop) (k86 : (Int32) → (Int32) → (Int32) → (Int32) → (Int32) → (Int32) → (Nat → Int32) → (Nat → Nat → Int32) → Prop) (x1 : Int32) (x2 : Int32) (ml : Nat → Nat → Int64) (x3 : Int32) (x4 : Int32) (x5 : Int32) (x6 : Int32) (x7 : Int32) (x8 : Int32) (s0 : Int32) (s1 : Int32) (mi : Nat → Int32) (ma : Nat → Nat → Int32) : Prop :=
 (vp_in s1 12 ∧ ∀ ma_3 : Nat → Nat → Int32, ma_3 = mup ma 22 (s1).toNatClampNeg s0 → ((¬ x7 = 0 → (w_X6_does_179 post k86 x1 x2 ml x3 x4 x5 x6 x8 mi ma_3)) ∧ (x7 = 0 → (vp_in x8 12 ∧ (vp_in x8 8 ∧ (((ma_3 22 (x8).toNatClampNeg) = (ma_3 21 (x8).toNatClampNeg) → (w_X6_does_184 post k86 x1 x2 ml x3 x4 x5 x6 x8 (nI 0) mi ma_3)) ∧ (¬ (ma_3 22 (x8).toNatClampNeg) = (ma_3 21 (x8).toNatClampNeg) → (w_X6_does_179 post k86 x1 x2 ml x3 x4 x5 x6 x8 mi ma_3))))))))
def w_X6_does_208 (post : (Int32) → (Nat → Int32) → (Nat → Nat → Int32) → Prop) (x1 : Int32) (x2 : Int32) (ml : Nat → Nat → Int64) : Nat → (Int32) → (Int32) → (Nat → Int32) → (Nat → Nat → Int32) → Prop
 | 0, _, _, _, _ => False
 | n0 + 1, x6, x8, mi, ma =>
 ((x6 ≤ x8 → (post (nI 1) mi ma)) ∧ (¬ x6 ≤ x8 → (vp_in x8 12 ∧ (vp_in x8 8 ∧ ∀ ma_20 : Nat → Nat → Int32, ma_20 = mup ma 21 (x8).toNatClampNeg (ma 22 (x8).toNatClampNeg) → (∀ z_21 : Int32, z_21 = x8 + (nI 1) → (w_X6_does_208 post x1 x2 ml n0 x6 z_21 mi ma_20))))))
def w_X6_does_86 (post : (Int32) → (Nat → Int32) → (Nat → Nat → Int32) → Prop) (x1 : Int32) (x2 : Int32) (ml : Nat → Nat → Int64) : Nat → (Int32) → (Int32) → (Int32) → (Int32) → (Int32) → (Int32) → (Nat → Int32) → (Nat → Nat → Int32) → Prop
 | 0, _, _, _, _, _, _, _, _ => False
 | n0 + 1, x3, x4, x5, x6, x7, x8, mi, ma =>
 ((x6 ≤ x8 → ((¬ x7 = 0 → (∀ mi_30 : Nat → Int32, mi_30 = upd mi 23 x6 → (∃ n1 : Nat, (w_X6_does_208 post x1 x2 ml n1 x6 (nI 0) mi_30 ma)))) ∧ (x7 = 0 → (post (nI 0) mi ma)))) ∧ (¬ x6 ≤ x8 → ((x3 ≤ x8 → (((x3 + x5) ≤ x8 → (vp_in ((x8 - x5) + x4) 8 ∧ (w_X6_does_156 post (fun (q0 : Int32) (q1 : Int32) (q2 : Int32) (q3 : Int32) (q4 : Int32) (q5 : Int32) (q6 : Nat → Int32) (q7 : Nat → Nat → Int32) => w_X6_does_86 post x1 x2 ml n0 q0 q1 q2 q3 q4 q5 q6 q7) x1 x2 ml x3 x4 x5 x6 x7 x8 (ma 21 (((x8 - x5) + x4)).toNatClampNeg) x8 mi ma))) ∧ (¬ (x3 + x5) ≤ x8 → (vp_in ((((nI 49) + ((nI 4) * x1)) + x8) - x3) 2580 ∧ (w_X6_does_156 post (fun (q0 : Int32) (q1 : Int32) (q2 : Int32) (q3 : Int32) (q4 : Int32) (q5 : Int32) (q6 : Nat → Int32) (q7 : Nat → Nat → Int32) => w_X6_does_86 post x1 x2 ml n0 q0 q1 q2 q3 q4 q5 q6 q7) x1 x2 ml x3 x4 x5 x6 x7 x8 (ma 6 (((((nI 49) + ((nI 4) * x1)) + x8) - x3)).toNatClampNeg) x8 mi ma))))) ∧ (¬ x3 ≤ x8 → (vp_in x8 8 ∧ (w_X6_does_156 post (fun (q0 : Int32) (q1 : Int32) (q2 : Int32) (q3 : Int32) (q4 : Int32) (q5 : Int32) (q6 : Nat → Int32) (q7 : Nat → Nat → Int32) => w_X6_does_86 post x1 x2 ml n0 q0 q1 q2 q3 q4 q5 q6 q7) x1 x2 ml x3 x4 x5 x6 x7 x8 (ma 21 (x8).toNatClampNeg) x8 mi ma))))))
def w_X6_does_81 (post : (Int32) → (Nat → Int32) → (Nat → Nat → Int32) → Prop) (x1 : Int32) (x2 : Int32) (ml : Nat → Nat → Int64) (x3 : Int32) (x4 : Int32) (x5 : Int32) (x6 : Int32) (s0 : Int32) (mi : Nat → Int32) (ma : Nat → Nat → Int32) : Prop :=
 (∃ n1 : Nat, (w_X6_does_86 post x1 x2 ml n1 x3 x4 x5 x6 s0 (nI 0) mi ma))
def w_X6_does_18 (post : (Int32) → (Nat → Int32) → (Nat → Nat → Int32) → Prop) (x1 : Int32) (x2 : Int32) (ml : Nat → Nat → Int64) (s0 : Int32) (mi : Nat → Int32) (ma : Nat → Nat → Int32) : Prop :=
 (vp_in ((nI 97) + x1) 2580 ∧ (∀ z_45 : Int32, z_45 = (ma 6 (((nI 97) + x1)).toNatClampNeg) → (vp_in ((nI 109) + x1) 2580 ∧ (∀ z_47 : Int32, z_47 = (ma 6 (((nI 109) + x1)).toNatClampNeg) → (∀ z_48 : Int32, z_48 = (((mi 23) - z_45) + z_47) → ((s0 = (-1) → (post (nI 0) mi ma)) ∧ (¬ s0 = (-1) → ((z_48 ≤ (nI 8) → ((z_48 = (mi 23) → (w_X6_does_81 post x1 x2 ml s0 z_45 z_47 z_48 (nI 0) mi ma)) ∧ (¬ z_48 = (mi 23) → (w_X6_does_81 post x1 x2 ml s0 z_45 z_47 z_48 (nI 1) mi ma)))) ∧ (¬ z_48 ≤ (nI 8) → (post (nI 0) mi ma))))))))))
def w_X6_does (post : (Int32) → (Nat → Int32) → (Nat → Nat → Int32) → Prop) (x1 : Int32) (x2 : Int32) (mi : Nat → Int32) (ma : Nat → Nat → Int32) (ml : Nat → Nat → Int64) : Prop :=
 (w_X6_holds (fun (z_61 : Int32) (ma_62 : Nat → Nat → Int32) => ((z_61 = 0 → (w_X6_does_18 post x1 x2 ml (-1) mi ma_62)) ∧ (¬ z_61 = 0 → (w_X6_stands (fun (z_67 : Int32) => (w_X6_does_18 post x1 x2 ml z_67 mi ma_62)) x1 mi ma_62 ml)))) x1 x2 mi ma ml)
theorem b_X6_does_184 {post : (Int32) → (Nat → Int32) → (Nat → Nat → Int32) → Prop}   {x1 : Int32} {x2 : Int32} {ml : Nat → Nat → Int64} {k86 : (Int32) → (Int32) → (Int32) → (Int32) → (Int32) → (Int32) → (Nat → Int32) → (Nat → Nat → Int32) → Prop} (hb : mOK b)  (hk86 : ∀ (x3 : Int32) (x4 : Int32) (x5 : Int32) (x6 : Int32) (x7 : Int32) (x8 : Int32) (mi : Nat → Int32) (ma : Nat → Nat → Int32), k86 x3 x4 x5 x6 x7 x8 mi ma → VV l E X cX6_does RX6 "does" 9 r_X6_does (some .boolean) (vpi (fun (r : Int32) (h' : AH) => ∃ (mi' : Nat → Int32) (ma' : Nat → Nat → Int32), h' = (mH b mi' ma' ml) ∧ post r mi' ma')) (mH b mi ma ml) 0 0 86 [(0, va_rf (some (b 0))), (1, .int x1), (2, .int x2), (3, .int x3), (4, .int x4), (5, .int x5), (6, .int x6), (7, .int x7), (8, .int x8)] []) (x3 : Int32) (x4 : Int32) (x5 : Int32) (x6 : Int32) (x8 : Int32) (s0 : Int32) (mi : Nat → Int32) (ma : Nat → Nat → Int32) (hw : w_X6_does_184 post k86 x1 x2 ml x3 x4 x5 x6 x8 s0 mi ma) : VV l E X cX6_does RX6 "does" 9 r_X6_does (some .boolean) (vpi (fun (r : Int32) (h' : AH) => ∃ (mi' : Nat → Int32) (ma' : Nat → Nat → Int32), h' = (mH b mi' ma' ml) ∧ post r mi' ma')) (mH b mi ma ml) 0 0 184 [(0, va_rf (some (b 0))), (1, .int x1), (2, .int x2), (3, .int x3), (4, .int x4), (5, .int x5), (6, .int x6), (8, .int x8)] [.int s0] := by
  refine v_istore (lv1 := [(7, .int s0), (0, va_rf (some (b 0))), (1, .int x1), (2, .int x2), (3, .int x3), (4, .int x4), (5, .int x5), (6, .int x6), (8, .int x8)]) dX6_does_184 (Nat.le_of_ble_eq_true rfl) rfl ?_
  obtain ⟨z_1, e_1⟩ : ∃ z9 : Int32, z9 = x8 + (nI 1) := ⟨_, rfl⟩
  replace hw := hw z_1 e_1
  refine v_iinc (q := 8) (v := z_1) (lv1 := [(8, .int z_1), (7, .int s0), (0, va_rf (some (b 0))), (1, .int x1), (2, .int x2), (3, .int x3), (4, .int x4), (5, .int x5), (6, .int x6)]) dX6_does_186 rfl (by rw [e_1, ic_1]) (Nat.le_of_ble_eq_true rfl) rfl ?_
  refine v_goto (tgt := 86) dX6_does_189 (by decide) ?_
  refine v_sub [2, 3, 4, 5, 6, 7, 8, 1, 0] rfl ?_
  exact hk86 x3 x4 x5 x6 s0 z_1 mi ma hw
theorem b_X6_does_179 {post : (Int32) → (Nat → Int32) → (Nat → Nat → Int32) → Prop}   {x1 : Int32} {x2 : Int32} {ml : Nat → Nat → Int64} {k86 : (Int32) → (Int32) → (Int32) → (Int32) → (Int32) → (Int32) → (Nat → Int32) → (Nat → Nat → Int32) → Prop} (hb : mOK b)  (hk86 : ∀ (x3 : Int32) (x4 : Int32) (x5 : Int32) (x6 : Int32) (x7 : Int32) (x8 : Int32) (mi : Nat → Int32) (ma : Nat → Nat → Int32), k86 x3 x4 x5 x6 x7 x8 mi ma → VV l E X cX6_does RX6 "does" 9 r_X6_does (some .boolean) (vpi (fun (r : Int32) (h' : AH) => ∃ (mi' : Nat → Int32) (ma' : Nat → Nat → Int32), h' = (mH b mi' ma' ml) ∧ post r mi' ma')) (mH b mi ma ml) 0 0 86 [(0, va_rf (some (b 0))), (1, .int x1), (2, .int x2), (3, .int x3), (4, .int x4), (5, .int x5), (6, .int x6), (7, .int x7), (8, .int x8)] []) (x3 : Int32) (x4 : Int32) (x5 : Int32) (x6 : Int32) (x8 : Int32) (mi : Nat → Int32) (ma : Nat → Nat → Int32) (hw : w_X6_does_179 post k86 x1 x2 ml x3 x4 x5 x6 x8 mi ma) : VV l E X cX6_does RX6 "does" 9 r_X6_does (some .boolean) (vpi (fun (r : Int32) (h' : AH) => ∃ (mi' : Nat → Int32) (ma' : Nat → Nat → Int32), h' = (mH b mi' ma' ml) ∧ post r mi' ma')) (mH b mi ma ml) 0 0 179 [(0, va_rf (some (b 0))), (1, .int x1), (2, .int x2), (3, .int x3), (4, .int x4), (5, .int x5), (6, .int x6), (8, .int x8)] [] := by
  refine v_iconst dX6_does_179 ic_1 ?_
  refine v_goto (tgt := 184) dX6_does_180 (by decide) ?_
  refine v_sub [0, 1, 2, 3, 4, 5, 6, 7] rfl ?_
  exact b_X6_does_184 hb hk86 x3 x4 x5 x6 x8 (nI 1) mi ma hw
theorem b_X6_does_156 {post : (Int32) → (Nat → Int32) → (Nat → Nat → Int32) → Prop}   {x1 : Int32} {x2 : Int32} {ml : Nat → Nat → Int64} {k86 : (Int32) → (Int32) → (Int32) → (Int32) → (Int32) → (Int32) → (Nat → Int32) → (Nat → Nat → Int32) → Prop} (hb : mOK b)  (hk86 : ∀ (x3 : Int32) (x4 : Int32) (x5 : Int32) (x6 : Int32) (x7 : Int32) (x8 : Int32) (mi : Nat → Int32) (ma : Nat → Nat → Int32), k86 x3 x4 x5 x6 x7 x8 mi ma → VV l E X cX6_does RX6 "does" 9 r_X6_does (some .boolean) (vpi (fun (r : Int32) (h' : AH) => ∃ (mi' : Nat → Int32) (ma' : Nat → Nat → Int32), h' = (mH b mi' ma' ml) ∧ post r mi' ma')) (mH b mi ma ml) 0 0 86 [(0, va_rf (some (b 0))), (1, .int x1), (2, .int x2), (3, .int x3), (4, .int x4), (5, .int x5), (6, .int x6), (7, .int x7), (8, .int x8)] []) (x3 : Int32) (x4 : Int32) (x5 : Int32) (x6 : Int32) (x7 : Int32) (x8 : Int32) (s0 : Int32) (s1 : Int32) (mi : Nat → Int32) (ma : Nat → Nat → Int32) (hw : w_X6_does_156 post k86 x1 x2 ml x3 x4 x5 x6 x7 x8 s0 s1 mi ma) : VV l E X cX6_does RX6 "does" 9 r_X6_does (some .boolean) (vpi (fun (r : Int32) (h' : AH) => ∃ (mi' : Nat → Int32) (ma' : Nat → Nat → Int32), h' = (mH b mi' ma' ml) ∧ post r mi' ma')) (mH b mi ma ml) 0 0 156 [(0, va_rf (some (b 0))), (1, .int x1), (2, .int x2), (3, .int x3), (4, .int x4), (5, .int x5), (6, .int x6), (7, .int x7), (8, .int x8)] [.int s0, .int s1, va_rf (some (b 22))] := by
  obtain ⟨hi_2, hw⟩ := hw
  obtain ⟨ma_3, ema_3⟩ : ∃ z9 : Nat → Nat → Int32, z9 = mup ma 22 (s1).toNatClampNeg s0 := ⟨_, rfl⟩
  replace hw := hw ma_3 ema_3
  refine v_iast dX6_does_156 (mH_ar22 hb) hi_2 ?_
  refine v_heap (h' := mH b mi ma_3 ml) (by rw [ema_3]; exact mH_st22 hb) ?_
  refine v_iload (q := 7) dX6_does_157 rfl ?_
  obtain ⟨hw_6, hw_7⟩ := hw
  refine v_if_ne (tgt := 179) dX6_does_159 (by decide) (fun c_4 => ?_) (fun c_5 => ?_)
  · have hw := hw_6 c_4
    refine v_sub [0, 1, 2, 3, 4, 5, 6, 8] rfl ?_
    exact b_X6_does_179 hb hk86 x3 x4 x5 x6 x8 mi ma_3 hw
  · have hw := hw_7 c_5
    refine v_aload_n (q := 0) dX6_does_162 rfl rfl ?_
    refine vm_get hb 22 (Nat.le_of_ble_eq_true rfl) q1636 rfl dX6_does_163 rfl ?_
    refine v_iload (q := 8) dX6_does_166 rfl ?_
    obtain ⟨hi_8, hw⟩ := hw
    refine v_iald dX6_does_168 (mH_ar22 hb) hi_8 ?_
    refine v_aload_n (q := 0) dX6_does_169 rfl rfl ?_
    refine vm_get hb 21 (Nat.le_of_ble_eq_true rfl) q1635 rfl dX6_does_170 rfl ?_
    refine v_iload (q := 8) dX6_does_173 rfl ?_
    obtain ⟨hi_9, hw⟩ := hw
    refine v_iald dX6_does_175 (mH_ar21 hb) hi_9 ?_
    obtain ⟨hw_12, hw_13⟩ := hw
    refine v_icmp_eq (tgt := 183) dX6_does_176 (by decide) (fun c_10 => ?_) (fun c_11 => ?_)
    · have hw := hw_12 c_10
      refine v_iconst dX6_does_183 ic_0 ?_
      refine v_sub [0, 1, 2, 3, 4, 5, 6, 8] rfl ?_
      exact b_X6_does_184 hb hk86 x3 x4 x5 x6 x8 (nI 0) mi ma_3 hw
    · have hw := hw_13 c_11
      refine v_sub [0, 1, 2, 3, 4, 5, 6, 8] rfl ?_
      exact b_X6_does_179 hb hk86 x3 x4 x5 x6 x8 mi ma_3 hw
theorem b_X6_does_208 {post : (Int32) → (Nat → Int32) → (Nat → Nat → Int32) → Prop}   {x1 : Int32} {x2 : Int32} {ml : Nat → Nat → Int64}  (hb : mOK b)   : ∀ (n0 : Nat) (x6 : Int32) (x8 : Int32) (mi : Nat → Int32) (ma : Nat → Nat → Int32), w_X6_does_208 post x1 x2 ml n0 x6 x8 mi ma → VV l E X cX6_does RX6 "does" 9 r_X6_does (some .boolean) (vpi (fun (r : Int32) (h' : AH) => ∃ (mi' : Nat → Int32) (ma' : Nat → Nat → Int32), h' = (mH b mi' ma' ml) ∧ post r mi' ma')) (mH b mi ma ml) 0 0 208 [(0, va_rf (some (b 0))), (1, .int x1), (2, .int x2), (6, .int x6), (8, .int x8)] [] := by
  intro n0
  induction n0 with
  | zero =>
    intro x6 x8 mi ma hw
    exact hw.elim
  | succ n0 ih =>
    intro x6 x8 mi ma hw
    refine v_iload (q := 4) dX6_does_208 rfl ?_
    refine v_iload (q := 3) dX6_does_210 rfl ?_
    obtain ⟨hw_16, hw_17⟩ := hw
    refine v_icmp_ge (tgt := 235) dX6_does_212 (by decide) (fun c_14 => ?_) (fun c_15 => ?_)
    · have hw := hw_16 c_14
      refine v_iconst dX6_does_235 ic_1 ?_
      exact v_zret dX6_does_236 rfl rfl ⟨_, rfl, _, _, rfl, hw⟩
    · have hw := hw_17 c_15
      refine v_aload_n (q := 0) dX6_does_215 rfl rfl ?_
      refine vm_get hb 21 (Nat.le_of_ble_eq_true rfl) q1635 rfl dX6_does_216 rfl ?_
      refine v_iload (q := 4) dX6_does_219 rfl ?_
      refine v_aload_n (q := 0) dX6_does_221 rfl rfl ?_
      refine vm_get hb 22 (Nat.le_of_ble_eq_true rfl) q1636 rfl dX6_does_222 rfl ?_
      refine v_iload (q := 4) dX6_does_225 rfl ?_
      obtain ⟨hi_18, hw⟩ := hw
      refine v_iald dX6_does_227 (mH_ar22 hb) hi_18 ?_
      obtain ⟨hi_19, hw⟩ := hw
      obtain ⟨ma_20, ema_20⟩ : ∃ z9 : Nat → Nat → Int32, z9 = mup ma 21 (x8).toNatClampNeg (ma 22 (x8).toNatClampNeg) := ⟨_, rfl⟩
      replace hw := hw ma_20 ema_20
      refine v_iast dX6_does_228 (mH_ar21 hb) hi_19 ?_
      refine v_heap (h' := mH b mi ma_20 ml) (by rw [ema_20]; exact mH_st21 hb) ?_
      obtain ⟨z_21, e_21⟩ : ∃ z9 : Int32, z9 = x8 + (nI 1) := ⟨_, rfl⟩
      replace hw := hw z_21 e_21
      refine v_iinc (q := 4) (v := z_21) (lv1 := [(8, .int z_21), (0, va_rf (some (b 0))), (1, .int x1), (2, .int x2), (6, .int x6)]) dX6_does_229 rfl (by rw [e_21, ic_1]) (Nat.le_of_ble_eq_true rfl) rfl ?_
      refine v_goto (tgt := 208) dX6_does_232 (by decide) ?_
      refine v_sub [1, 2, 3, 4, 0] rfl ?_
      exact ih x6 z_21 mi ma_20 hw
theorem b_X6_does_86 {post : (Int32) → (Nat → Int32) → (Nat → Nat → Int32) → Prop}   {x1 : Int32} {x2 : Int32} {ml : Nat → Nat → Int64}  (hb : mOK b)   : ∀ (n0 : Nat) (x3 : Int32) (x4 : Int32) (x5 : Int32) (x6 : Int32) (x7 : Int32) (x8 : Int32) (mi : Nat → Int32) (ma : Nat → Nat → Int32), w_X6_does_86 post x1 x2 ml n0 x3 x4 x5 x6 x7 x8 mi ma → VV l E X cX6_does RX6 "does" 9 r_X6_does (some .boolean) (vpi (fun (r : Int32) (h' : AH) => ∃ (mi' : Nat → Int32) (ma' : Nat → Nat → Int32), h' = (mH b mi' ma' ml) ∧ post r mi' ma')) (mH b mi ma ml) 0 0 86 [(0, va_rf (some (b 0))), (1, .int x1), (2, .int x2), (3, .int x3), (4, .int x4), (5, .int x5), (6, .int x6), (7, .int x7), (8, .int x8)] [] := by
  intro n0
  induction n0 with
  | zero =>
    intro x3 x4 x5 x6 x7 x8 mi ma hw
    exact hw.elim
  | succ n0 ih =>
    intro x3 x4 x5 x6 x7 x8 mi ma hw
    refine v_iload (q := 8) dX6_does_86 rfl ?_
    refine v_iload (q := 6) dX6_does_88 rfl ?_
    obtain ⟨hw_24, hw_25⟩ := hw
    refine v_icmp_ge (tgt := 192) dX6_does_90 (by decide) (fun c_22 => ?_) (fun c_23 => ?_)
    · have hw := hw_24 c_22
      refine v_iload (q := 7) dX6_does_192 rfl ?_
      obtain ⟨hw_28, hw_29⟩ := hw
      refine v_if_ne (tgt := 199) dX6_does_194 (by decide) (fun c_26 => ?_) (fun c_27 => ?_)
      · have hw := hw_28 c_26
        refine v_aload_n (q := 0) dX6_does_199 rfl rfl ?_
        refine v_iload (q := 6) dX6_does_200 rfl ?_
        obtain ⟨mi_30, emi_30⟩ : ∃ z9 : Nat → Int32, z9 = upd mi 23 x6 := ⟨_, rfl⟩
        replace hw := hw mi_30 emi_30
        refine vm_put hb 23 (Nat.le_of_ble_eq_true rfl) q1637 rfl rfl rfl dX6_does_202 emi_30 rfl ?_
        refine v_iconst dX6_does_205 ic_0 ?_
        refine v_istore (lv1 := [(8, .int (nI 0)), (0, va_rf (some (b 0))), (1, .int x1), (2, .int x2), (3, .int x3), (4, .int x4), (5, .int x5), (6, .int x6), (7, .int x7)]) dX6_does_206 (Nat.le_of_ble_eq_true rfl) rfl ?_
        obtain ⟨n_31, hw⟩ := hw
        refine v_sub [1, 2, 3, 7, 0] rfl ?_
        exact b_X6_does_208 hb n_31 x6 (nI 0) mi_30 ma hw
      · have hw := hw_29 c_27
        refine v_iconst dX6_does_197 ic_0 ?_
        exact v_zret dX6_does_198 rfl rfl ⟨_, rfl, _, _, rfl, hw⟩
    · have hw := hw_25 c_23
      refine v_aload_n (q := 0) dX6_does_93 rfl rfl ?_
      refine vm_get hb 22 (Nat.le_of_ble_eq_true rfl) q1636 rfl dX6_does_94 rfl ?_
      refine v_iload (q := 8) dX6_does_97 rfl ?_
      refine v_iload (q := 8) dX6_does_99 rfl ?_
      refine v_iload_n (q := 3) dX6_does_101 rfl rfl ?_
      obtain ⟨hw_34, hw_35⟩ := hw
      refine v_icmp_ge (tgt := 115) dX6_does_102 (by decide) (fun c_32 => ?_) (fun c_33 => ?_)
      · have hw := hw_34 c_32
        refine v_iload (q := 8) dX6_does_115 rfl ?_
        refine v_iload_n (q := 3) dX6_does_117 rfl rfl ?_
        refine v_iload (q := 5) dX6_does_118 rfl ?_
        refine v_iadd dX6_does_120 ?_
        obtain ⟨hw_38, hw_39⟩ := hw
        refine v_icmp_ge (tgt := 143) dX6_does_121 (by decide) (fun c_36 => ?_) (fun c_37 => ?_)
        · have hw := hw_38 c_36
          refine v_aload_n (q := 0) dX6_does_143 rfl rfl ?_
          refine vm_get hb 21 (Nat.le_of_ble_eq_true rfl) q1635 rfl dX6_does_144 rfl ?_
          refine v_iload (q := 8) dX6_does_147 rfl ?_
          refine v_iload (q := 5) dX6_does_149 rfl ?_
          refine v_isub dX6_does_151 ?_
          refine v_iload (q := 4) dX6_does_152 rfl ?_
          refine v_iadd dX6_does_154 ?_
          obtain ⟨hi_40, hw⟩ := hw
          refine v_iald dX6_does_155 (mH_ar21 hb) hi_40 ?_
          refine v_sub [0, 1, 2, 3, 4, 5, 6, 7, 8] rfl ?_
          exact b_X6_does_156 hb (fun q0 q1 q2 q3 q4 q5 q6 q7 z => ih q0 q1 q2 q3 q4 q5 q6 q7 z) x3 x4 x5 x6 x7 x8 (ma 21 (((x8 - x5) + x4)).toNatClampNeg) x8 mi ma hw
        · have hw := hw_39 c_37
          refine v_aload_n (q := 0) dX6_does_124 rfl rfl ?_
          refine vm_get hb 6 (Nat.le_of_ble_eq_true rfl) q1620 rfl dX6_does_125 rfl ?_
          refine v_bipush dX6_does_128 bp_49 ?_
          refine v_iconst dX6_does_130 ic_4 ?_
          refine v_iload_n (q := 1) dX6_does_131 rfl rfl ?_
          refine v_imul dX6_does_132 ?_
          refine v_iadd dX6_does_133 ?_
          refine v_iload (q := 8) dX6_does_134 rfl ?_
          refine v_iadd dX6_does_136 ?_
          refine v_iload_n (q := 3) dX6_does_137 rfl rfl ?_
          refine v_isub dX6_does_138 ?_
          obtain ⟨hi_41, hw⟩ := hw
          refine v_iald dX6_does_139 (mH_ar6 hb) hi_41 ?_
          refine v_goto (tgt := 156) dX6_does_140 (by decide) ?_
          refine v_sub [0, 1, 2, 3, 4, 5, 6, 7, 8] rfl ?_
          exact b_X6_does_156 hb (fun q0 q1 q2 q3 q4 q5 q6 q7 z => ih q0 q1 q2 q3 q4 q5 q6 q7 z) x3 x4 x5 x6 x7 x8 (ma 6 (((((nI 49) + ((nI 4) * x1)) + x8) - x3)).toNatClampNeg) x8 mi ma hw
      · have hw := hw_35 c_33
        refine v_aload_n (q := 0) dX6_does_105 rfl rfl ?_
        refine vm_get hb 21 (Nat.le_of_ble_eq_true rfl) q1635 rfl dX6_does_106 rfl ?_
        refine v_iload (q := 8) dX6_does_109 rfl ?_
        obtain ⟨hi_42, hw⟩ := hw
        refine v_iald dX6_does_111 (mH_ar21 hb) hi_42 ?_
        refine v_goto (tgt := 156) dX6_does_112 (by decide) ?_
        refine v_sub [0, 1, 2, 3, 4, 5, 6, 7, 8] rfl ?_
        exact b_X6_does_156 hb (fun q0 q1 q2 q3 q4 q5 q6 q7 z => ih q0 q1 q2 q3 q4 q5 q6 q7 z) x3 x4 x5 x6 x7 x8 (ma 21 (x8).toNatClampNeg) x8 mi ma hw
theorem b_X6_does_81 {post : (Int32) → (Nat → Int32) → (Nat → Nat → Int32) → Prop}   {x1 : Int32} {x2 : Int32} {ml : Nat → Nat → Int64}  (hb : mOK b)   (x3 : Int32) (x4 : Int32) (x5 : Int32) (x6 : Int32) (s0 : Int32) (mi : Nat → Int32) (ma : Nat → Nat → Int32) (hw : w_X6_does_81 post x1 x2 ml x3 x4 x5 x6 s0 mi ma) : VV l E X cX6_does RX6 "does" 9 r_X6_does (some .boolean) (vpi (fun (r : Int32) (h' : AH) => ∃ (mi' : Nat → Int32) (ma' : Nat → Nat → Int32), h' = (mH b mi' ma' ml) ∧ post r mi' ma')) (mH b mi ma ml) 0 0 81 [(0, va_rf (some (b 0))), (1, .int x1), (2, .int x2), (3, .int x3), (4, .int x4), (5, .int x5), (6, .int x6)] [.int s0] := by
  refine v_istore (lv1 := [(7, .int s0), (0, va_rf (some (b 0))), (1, .int x1), (2, .int x2), (3, .int x3), (4, .int x4), (5, .int x5), (6, .int x6)]) dX6_does_81 (Nat.le_of_ble_eq_true rfl) rfl ?_
  refine v_iconst dX6_does_83 ic_0 ?_
  refine v_istore (lv1 := [(8, .int (nI 0)), (7, .int s0), (0, va_rf (some (b 0))), (1, .int x1), (2, .int x2), (3, .int x3), (4, .int x4), (5, .int x5), (6, .int x6)]) dX6_does_84 (Nat.le_of_ble_eq_true rfl) rfl ?_
  obtain ⟨n_43, hw⟩ := hw
  refine v_sub [2, 3, 4, 5, 6, 7, 8, 1, 0] rfl ?_
  exact b_X6_does_86 hb n_43 x3 x4 x5 x6 s0 (nI 0) mi ma hw
theorem b_X6_does_18 {post : (Int32) → (Nat → Int32) → (Nat → Nat → Int32) → Prop}   {x1 : Int32} {x2 : Int32} {ml : Nat → Nat → Int64}  (hb : mOK b)   (s0 : Int32) (mi : Nat → Int32) (ma : Nat → Nat → Int32) (hw : w_X6_does_18 post x1 x2 ml s0 mi ma) : VV l E X cX6_does RX6 "does" 9 r_X6_does (some .boolean) (vpi (fun (r : Int32) (h' : AH) => ∃ (mi' : Nat → Int32) (ma' : Nat → Nat → Int32), h' = (mH b mi' ma' ml) ∧ post r mi' ma')) (mH b mi ma ml) 0 0 18 [(0, va_rf (some (b 0))), (1, .int x1), (2, .int x2)] [.int s0] := by
  refine v_istore_n (lv1 := [(3, .int s0), (0, va_rf (some (b 0))), (1, .int x1), (2, .int x2)]) dX6_does_18 rfl (Nat.le_of_ble_eq_true rfl) rfl ?_
  refine v_aload_n (q := 1) dX6_does_19 rfl rfl ?_
  refine vm_get hb 6 (Nat.le_of_ble_eq_true rfl) q1620 rfl dX6_does_20 rfl ?_
  refine v_bipush dX6_does_23 bp_97 ?_
  refine v_iload_n (q := 2) dX6_does_25 rfl rfl ?_
  refine v_iadd dX6_does_26 ?_
  obtain ⟨hi_44, hw⟩ := hw
  refine v_iald dX6_does_27 (mH_ar6 hb) hi_44 ?_
  refine v_topi (fun z_45 e_45 => ?_)
  replace hw := hw z_45 e_45
  refine v_istore (lv1 := [(4, .int z_45), (3, .int s0), (0, va_rf (some (b 0))), (1, .int x1), (2, .int x2)]) dX6_does_28 (Nat.le_of_ble_eq_true rfl) rfl ?_
  refine v_aload_n (q := 2) dX6_does_30 rfl rfl ?_
  refine vm_get hb 6 (Nat.le_of_ble_eq_true rfl) q1620 rfl dX6_does_31 rfl ?_
  refine v_bipush dX6_does_34 bp_109 ?_
  refine v_iload_n (q := 3) dX6_does_36 rfl rfl ?_
  refine v_iadd dX6_does_37 ?_
  obtain ⟨hi_46, hw⟩ := hw
  refine v_iald dX6_does_38 (mH_ar6 hb) hi_46 ?_
  refine v_topi (fun z_47 e_47 => ?_)
  replace hw := hw z_47 e_47
  refine v_istore (lv1 := [(5, .int z_47), (4, .int z_45), (3, .int s0), (0, va_rf (some (b 0))), (1, .int x1), (2, .int x2)]) dX6_does_39 (Nat.le_of_ble_eq_true rfl) rfl ?_
  refine v_aload_n (q := 3) dX6_does_41 rfl rfl ?_
  refine vm_get hb 23 (Nat.le_of_ble_eq_true rfl) q1637 rfl dX6_does_42 rfl ?_
  refine v_iload (q := 1) dX6_does_45 rfl ?_
  refine v_isub dX6_does_47 ?_
  refine v_iload (q := 0) dX6_does_48 rfl ?_
  refine v_iadd dX6_does_50 ?_
  refine v_topi (fun z_48 e_48 => ?_)
  replace hw := hw z_48 e_48
  refine v_istore (lv1 := [(6, .int z_48), (5, .int z_47), (4, .int z_45), (3, .int s0), (0, va_rf (some (b 0))), (1, .int x1), (2, .int x2)]) dX6_does_51 (Nat.le_of_ble_eq_true rfl) rfl ?_
  refine v_iload_n (q := 3) dX6_does_53 rfl rfl ?_
  refine v_iconst dX6_does_54 ic_m1 ?_
  obtain ⟨hw_51, hw_52⟩ := hw
  refine v_icmp_eq (tgt := 65) dX6_does_55 (by decide) (fun c_49 => ?_) (fun c_50 => ?_)
  · have hw := hw_51 c_49
    refine v_iconst dX6_does_65 ic_0 ?_
    exact v_zret dX6_does_66 rfl rfl ⟨_, rfl, _, _, rfl, hw⟩
  · have hw := hw_52 c_50
    refine v_iload (q := 0) dX6_does_58 rfl ?_
    refine v_bipush dX6_does_60 bp_8 ?_
    obtain ⟨hw_55, hw_56⟩ := hw
    refine v_icmp_le (tgt := 67) dX6_does_62 (by decide) (fun c_53 => ?_) (fun c_54 => ?_)
    · have hw := hw_55 c_53
      refine v_iload (q := 0) dX6_does_67 rfl ?_
      refine v_aload_n (q := 4) dX6_does_69 rfl rfl ?_
      refine vm_get hb 23 (Nat.le_of_ble_eq_true rfl) q1637 rfl dX6_does_70 rfl ?_
      obtain ⟨hw_59, hw_60⟩ := hw
      refine v_icmp_eq (tgt := 80) dX6_does_73 (by decide) (fun c_57 => ?_) (fun c_58 => ?_)
      · have hw := hw_59 c_57
        refine v_iconst dX6_does_80 ic_0 ?_
        refine v_sub [4, 5, 6, 3, 2, 1, 0] rfl ?_
        exact b_X6_does_81 hb s0 z_45 z_47 z_48 (nI 0) mi ma hw
      · have hw := hw_60 c_58
        refine v_iconst dX6_does_76 ic_1 ?_
        refine v_goto (tgt := 81) dX6_does_77 (by decide) ?_
        refine v_sub [4, 5, 6, 3, 2, 1, 0] rfl ?_
        exact b_X6_does_81 hb s0 z_45 z_47 z_48 (nI 1) mi ma hw
    · have hw := hw_56 c_54
      refine v_iconst dX6_does_65 ic_0 ?_
      exact v_zret dX6_does_66 rfl rfl ⟨_, rfl, _, _, rfl, hw⟩
theorem e_X6_does {post : (Int32) → (Nat → Int32) → (Nat → Nat → Int32) → Prop}   {x1 : Int32} {x2 : Int32} {mi : Nat → Int32} {ma : Nat → Nat → Int32} {ml : Nat → Nat → Int64} (hb : mOK b)  (hw : w_X6_does post  x1 x2 mi ma ml) : VV l E X cX6_does RX6 "does" 9 r_X6_does (some .boolean) (vpi (fun (r : Int32) (h' : AH) => ∃ (mi' : Nat → Int32) (ma' : Nat → Nat → Int32), h' = (mH b mi' ma' ml) ∧ post r mi' ma')) (mH b mi ma ml) 0 0 0 [(0, va_rf (some (b 0))), (1, .int x1), (2, .int x2)] [] := by
  refine v_aload_n (q := 0) dX6_does_0 rfl rfl ?_
  refine v_iload_n (q := 1) dX6_does_1 rfl rfl ?_
  refine v_iload_n (q := 2) dX6_does_2 rfl rfl ?_
  refine v_callV q1882 q1884 qs74 q113 q1885 (ci := 7) rfl (mH_obj hb) n_X6_holds ⟨Nat.le_of_ble_eq_true rfl, Nat.le_of_ble_eq_true rfl⟩ [.int x1, .int x2] [] (met_X6_holds hb hw) rfl (Nat.zero_le _) ⟨Nat.le_refl _, Nat.le_refl _⟩ dX6_does_3 rfl (v_ki (fun z_61 h1 hv => ?_))
  clear hw
  obtain ⟨ma_62, rfl, hw⟩ := hv
  obtain ⟨hw_65, hw_66⟩ := hw
  refine v_if_eq (tgt := 17) dX6_does_6 (by decide) (fun c_63 => ?_) (fun c_64 => ?_)
  · have hw := hw_65 c_63
    refine v_iconst dX6_does_17 ic_m1 ?_
    refine v_sub [0, 1, 2] rfl ?_
    exact b_X6_does_18 hb (-1) mi ma_62 hw
  · have hw := hw_66 c_64
    refine v_aload_n (q := 0) dX6_does_9 rfl rfl ?_
    refine v_iload_n (q := 1) dX6_does_10 rfl rfl ?_
    refine v_callV q1890 q1892 qs76 q113 q1893 (ci := 7) rfl (mH_obj hb) n_X6_stands ⟨Nat.le_of_ble_eq_true rfl, Nat.le_of_ble_eq_true rfl⟩ [.int x1] [] (met_X6_stands hb hw) rfl (Nat.zero_le _) ⟨Nat.le_refl _, Nat.le_refl _⟩ dX6_does_11 rfl (v_ki (fun z_67 h1 hv => ?_))
    clear hw
    obtain ⟨e9, hw⟩ := hv
    refine v_heap e9 ?_
    clear e9
    refine v_goto (tgt := 18) dX6_does_14 (by decide) ?_
    refine v_sub [0, 1, 2] rfl ?_
    exact b_X6_does_18 hb z_67 mi ma_62 hw
theorem met_X6_does {post : (Int32) → (Nat → Int32) → (Nat → Nat → Int32) → Prop}   {x1 : Int32} {x2 : Int32} {mi : Nat → Int32} {ma : Nat → Nat → Int32} {ml : Nat → Nat → Int64} (hb : mOK b)  (hw : w_X6_does post  x1 x2 mi ma ml) : Mt l E yX6_does (ws_ yX6_does cX6_does 9 (some .boolean)) r_X6_does [va_rf (some (b 0)), .int x1, .int x2] (mH b mi ma ml) (vpi (fun (r : Int32) (h' : AH) => ∃ (mi' : Nat → Int32) (ma' : Nat → Nat → Int32), h' = (mH b mi' ma' ml) ∧ post r mi' ma')) := v_entry (by decide +kernel) (Nat.le_of_ble_eq_true rfl) rfl (fun _ => e_X6_does hb hw)
/-! X6_smooth -/
abbrev r_X6_smooth : Room := { frames := 3, cells := 0, slots := 0, locals := 77 }
theorem n_X6_smooth : vdn yX6_smooth 2 := ⟨by decide +kernel, by decide +kernel, by decide +kernel⟩
def w_X6_smooth_94 (post : (Int64) → (Nat → Int32) → (Nat → Nat → Int32) → Prop) (k45 : (Int32) → (Int32) → (Nat → Int32) → (Nat → Nat → Int32) → Prop) (x1 : Int64) (x3 : Int32) (ml : Nat → Nat → Int64) (x4 : Int32) (x5 : Int32) (mi : Nat → Int32) (ma : Nat → Nat → Int32) : Prop :=
 (∀ z_1 : Int32, z_1 = x5 + (nI 1) → (k45 x4 z_1 mi ma))
def w_X6_smooth_63 (post : (Int64) → (Nat → Int32) → (Nat → Nat → Int32) → Prop) (k45 : (Int32) → (Int32) → (Nat → Int32) → (Nat → Nat → Int32) → Prop) (x1 : Int64) (x3 : Int32) (ml : Nat → Nat → Int64) : Nat → (Int32) → (Int32) → (Int32) → (Nat → Int32) → (Nat → Nat → Int32) → Prop
 | 0, _, _, _, _, _ => False
 | n0 + 1, x4, x5, x6, mi, ma =>
 (vp_in (nI 0) 2580 ∧ (((ma 6 ((nI 0)).toNatClampNeg) ≤ x6 → (w_X6_smooth_94 post k45 x1 x3 ml x4 x5 mi ma)) ∧ (¬ (ma 6 ((nI 0)).toNatClampNeg) ≤ x6 → ((¬ x4 = 0 → (w_X6_smooth_94 post k45 x1 x3 ml x4 x5 mi ma)) ∧ (x4 = 0 → (w_X6_does (fun (z_11 : Int32) (mi_12 : Nat → Int32) (ma_13 : Nat → Nat → Int32) => (∀ z_14 : Int32, z_14 = x6 + (nI 1) → (w_X6_smooth_63 post k45 x1 x3 ml n0 z_11 x5 z_14 mi_12 ma_13))) x6 x3 mi ma ml))))))
def w_X6_smooth_106 (post : (Int64) → (Nat → Int32) → (Nat → Nat → Int32) → Prop) (x1 : Int64) (x3 : Int32) (ml : Nat → Nat → Int64) : Nat → (Int64) → (Int32) → (Nat → Int32) → (Nat → Nat → Int32) → Prop
 | 0, _, _, _, _ => False
 | n0 + 1, x5, x7, mi, ma =>
 (((mi 23) ≤ x7 → (post x5 mi ma)) ∧ (¬ (mi 23) ≤ x7 → (vp_in x7 8 ∧ (∀ y_20 : Int64, y_20 = (x5 ||| ((((ma 21 (x7).toNatClampNeg)).toInt64) <<< ((((nI 56) - ((nI 8) * x7))).toInt64 &&& 63))) → (∀ z_21 : Int32, z_21 = x7 + (nI 1) → (w_X6_smooth_106 post x1 x3 ml n0 y_20 z_21 mi ma))))))
def w_X6_smooth_100 (post : (Int64) → (Nat → Int32) → (Nat → Nat → Int32) → Prop) (x1 : Int64) (x3 : Int32) (ml : Nat → Nat → Int64) (mi : Nat → Int32) (ma : Nat → Nat → Int32) : Prop :=
 (∃ n1 : Nat, (w_X6_smooth_106 post x1 x3 ml n1 (lN 0) (nI 0) mi ma))
def w_X6_smooth_45 (post : (Int64) → (Nat → Int32) → (Nat → Nat → Int32) → Prop) (x1 : Int64) (x3 : Int32) (ml : Nat → Nat → Int64) : Nat → (Int32) → (Int32) → (Nat → Int32) → (Nat → Nat → Int32) → Prop
 | 0, _, _, _, _ => False
 | n0 + 1, x4, x5, mi, ma =>
 (((nI 12) ≤ x5 → (w_X6_smooth_100 post x1 x3 ml mi ma)) ∧ (¬ (nI 12) ≤ x5 → ((x4 = 0 → (w_X6_smooth_100 post x1 x3 ml mi ma)) ∧ (¬ x4 = 0 → (∃ n1 : Nat, (w_X6_smooth_63 post (fun (q0 : Int32) (q1 : Int32) (q2 : Nat → Int32) (q3 : Nat → Nat → Int32) => w_X6_smooth_45 post x1 x3 ml n0 q0 q1 q2 q3) x1 x3 ml n1 (nI 0) x5 (nI 0) mi ma))))))
def w_X6_smooth_11 (post : (Int64) → (Nat → Int32) → (Nat → Nat → Int32) → Prop) (x1 : Int64) (x3 : Int32) (ml : Nat → Nat → Int64) : Nat → (Int32) → (Nat → Int32) → (Nat → Nat → Int32) → Prop
 | 0, _, _, _ => False
 | n0 + 1, x4, mi, ma =>
 (((mi 23) ≤ x4 → (∃ n1 : Nat, (w_X6_smooth_45 post x1 x3 ml n1 (nI 1) (nI 0) mi ma))) ∧ (¬ (mi 23) ≤ x4 → (w_X6_wordAt (fun (z_37 : Int32) => (vp_in x4 8 ∧ ∀ ma_39 : Nat → Nat → Int32, ma_39 = mup ma 21 (x4).toNatClampNeg z_37 → (∀ z_40 : Int32, z_40 = x4 + (nI 1) → (w_X6_smooth_11 post x1 x3 ml n0 z_40 mi ma_39)))) x1 x4)))
def w_X6_smooth (post : (Int64) → (Nat → Int32) → (Nat → Nat → Int32) → Prop) (x1 : Int64) (x3 : Int32) (mi : Nat → Int32) (ma : Nat → Nat → Int32) (ml : Nat → Nat → Int64) : Prop :=
 (w_X6_lengthOf (fun (z_41 : Int32) => (∀ mi_42 : Nat → Int32, mi_42 = upd mi 23 z_41 → (∃ n1 : Nat, (w_X6_smooth_11 post x1 x3 ml n1 (nI 0) mi_42 ma)))) x1)
theorem b_X6_smooth_94 {post : (Int64) → (Nat → Int32) → (Nat → Nat → Int32) → Prop}   {x1 : Int64} {x3 : Int32} {ml : Nat → Nat → Int64} {k45 : (Int32) → (Int32) → (Nat → Int32) → (Nat → Nat → Int32) → Prop} (hb : mOK b)  (hk45 : ∀ (x4 : Int32) (x5 : Int32) (mi : Nat → Int32) (ma : Nat → Nat → Int32), k45 x4 x5 mi ma → VV l E X cX6_smooth RX6 "smooth" 8 r_X6_smooth (some .long) (vpl (fun (r : Int64) (h' : AH) => ∃ (mi' : Nat → Int32) (ma' : Nat → Nat → Int32), h' = (mH b mi' ma' ml) ∧ post r mi' ma')) (mH b mi ma ml) 0 0 45 [(0, va_rf (some (b 0))), (1, .long x1), (3, .int x3), (4, .int x4), (5, .int x5)] []) (x4 : Int32) (x5 : Int32) (mi : Nat → Int32) (ma : Nat → Nat → Int32) (hw : w_X6_smooth_94 post k45 x1 x3 ml x4 x5 mi ma) : VV l E X cX6_smooth RX6 "smooth" 8 r_X6_smooth (some .long) (vpl (fun (r : Int64) (h' : AH) => ∃ (mi' : Nat → Int32) (ma' : Nat → Nat → Int32), h' = (mH b mi' ma' ml) ∧ post r mi' ma')) (mH b mi ma ml) 0 0 94 [(0, va_rf (some (b 0))), (1, .long x1), (3, .int x3), (4, .int x4), (5, .int x5)] [] := by
  obtain ⟨z_1, e_1⟩ : ∃ z9 : Int32, z9 = x5 + (nI 1) := ⟨_, rfl⟩
  replace hw := hw z_1 e_1
  refine v_iinc (q := 4) (v := z_1) (lv1 := [(5, .int z_1), (0, va_rf (some (b 0))), (1, .long x1), (3, .int x3), (4, .int x4)]) dX6_smooth_94 rfl (by rw [e_1, ic_1]) (Nat.le_of_ble_eq_true rfl) rfl ?_
  refine v_goto (tgt := 45) dX6_smooth_97 (by decide) ?_
  refine v_sub [1, 2, 3, 4, 0] rfl ?_
  exact hk45 x4 z_1 mi ma hw
theorem b_X6_smooth_63 {post : (Int64) → (Nat → Int32) → (Nat → Nat → Int32) → Prop}   {x1 : Int64} {x3 : Int32} {ml : Nat → Nat → Int64} {k45 : (Int32) → (Int32) → (Nat → Int32) → (Nat → Nat → Int32) → Prop} (hb : mOK b)  (hk45 : ∀ (x4 : Int32) (x5 : Int32) (mi : Nat → Int32) (ma : Nat → Nat → Int32), k45 x4 x5 mi ma → VV l E X cX6_smooth RX6 "smooth" 8 r_X6_smooth (some .long) (vpl (fun (r : Int64) (h' : AH) => ∃ (mi' : Nat → Int32) (ma' : Nat → Nat → Int32), h' = (mH b mi' ma' ml) ∧ post r mi' ma')) (mH b mi ma ml) 0 0 45 [(0, va_rf (some (b 0))), (1, .long x1), (3, .int x3), (4, .int x4), (5, .int x5)] []) : ∀ (n0 : Nat) (x4 : Int32) (x5 : Int32) (x6 : Int32) (mi : Nat → Int32) (ma : Nat → Nat → Int32), w_X6_smooth_63 post k45 x1 x3 ml n0 x4 x5 x6 mi ma → VV l E X cX6_smooth RX6 "smooth" 8 r_X6_smooth (some .long) (vpl (fun (r : Int64) (h' : AH) => ∃ (mi' : Nat → Int32) (ma' : Nat → Nat → Int32), h' = (mH b mi' ma' ml) ∧ post r mi' ma')) (mH b mi ma ml) 0 0 63 [(0, va_rf (some (b 0))), (1, .long x1), (3, .int x3), (4, .int x4), (5, .int x5), (6, .int x6)] [] := by
  intro n0
  induction n0 with
  | zero =>
    intro x4 x5 x6 mi ma hw
    exact hw.elim
  | succ n0 ih =>
    intro x4 x5 x6 mi ma hw
    refine v_iload (q := 5) dX6_smooth_63 rfl ?_
    refine v_aload_n (q := 0) dX6_smooth_65 rfl rfl ?_
    refine vm_get hb 6 (Nat.le_of_ble_eq_true rfl) q1620 rfl dX6_smooth_66 rfl ?_
    refine v_iconst dX6_smooth_69 ic_0 ?_
    obtain ⟨hi_2, hw⟩ := hw
    refine v_iald dX6_smooth_70 (mH_ar6 hb) hi_2 ?_
    obtain ⟨hw_5, hw_6⟩ := hw
    refine v_icmp_ge (tgt := 94) dX6_smooth_71 (by decide) (fun c_3 => ?_) (fun c_4 => ?_)
    · have hw := hw_5 c_3
      refine v_sub [0, 1, 2, 3, 4] rfl ?_
      exact b_X6_smooth_94 hb hk45 x4 x5 mi ma hw
    · have hw := hw_6 c_4
      refine v_iload (q := 3) dX6_smooth_74 rfl ?_
      obtain ⟨hw_9, hw_10⟩ := hw
      refine v_if_ne (tgt := 94) dX6_smooth_76 (by decide) (fun c_7 => ?_) (fun c_8 => ?_)
      · have hw := hw_9 c_7
        refine v_sub [0, 1, 2, 3, 4] rfl ?_
        exact b_X6_smooth_94 hb hk45 x4 x5 mi ma hw
      · have hw := hw_10 c_8
        refine v_aload_n (q := 0) dX6_smooth_79 rfl rfl ?_
        refine v_iload (q := 5) dX6_smooth_80 rfl ?_
        refine v_iload_n (q := 2) dX6_smooth_82 rfl rfl ?_
        refine v_callV q1878 q1880 qs73 q113 q1881 (ci := 7) rfl (mH_obj hb) n_X6_does ⟨Nat.le_of_ble_eq_true rfl, Nat.le_of_ble_eq_true rfl⟩ [.int x6, .int x3] [] (met_X6_does hb hw) rfl (Nat.zero_le _) ⟨Nat.le_refl _, Nat.le_refl _⟩ dX6_smooth_83 rfl (v_ki (fun z_11 h1 hv => ?_))
        clear hw
        obtain ⟨mi_12, ma_13, rfl, hw⟩ := hv
        refine v_istore (lv1 := [(4, .int z_11), (0, va_rf (some (b 0))), (1, .long x1), (3, .int x3), (5, .int x5), (6, .int x6)]) dX6_smooth_86 (Nat.le_of_ble_eq_true rfl) rfl ?_
        obtain ⟨z_14, e_14⟩ : ∃ z9 : Int32, z9 = x6 + (nI 1) := ⟨_, rfl⟩
        replace hw := hw z_14 e_14
        refine v_iinc (q := 5) (v := z_14) (lv1 := [(6, .int z_14), (4, .int z_11), (0, va_rf (some (b 0))), (1, .long x1), (3, .int x3), (5, .int x5)]) dX6_smooth_88 rfl (by rw [e_14, ic_1]) (Nat.le_of_ble_eq_true rfl) rfl ?_
        refine v_goto (tgt := 63) dX6_smooth_91 (by decide) ?_
        refine v_sub [2, 3, 4, 1, 5, 0] rfl ?_
        exact ih z_11 x5 z_14 mi_12 ma_13 hw
theorem b_X6_smooth_106 {post : (Int64) → (Nat → Int32) → (Nat → Nat → Int32) → Prop}   {x1 : Int64} {x3 : Int32} {ml : Nat → Nat → Int64}  (hb : mOK b)   : ∀ (n0 : Nat) (x5 : Int64) (x7 : Int32) (mi : Nat → Int32) (ma : Nat → Nat → Int32), w_X6_smooth_106 post x1 x3 ml n0 x5 x7 mi ma → VV l E X cX6_smooth RX6 "smooth" 8 r_X6_smooth (some .long) (vpl (fun (r : Int64) (h' : AH) => ∃ (mi' : Nat → Int32) (ma' : Nat → Nat → Int32), h' = (mH b mi' ma' ml) ∧ post r mi' ma')) (mH b mi ma ml) 0 0 106 [(0, va_rf (some (b 0))), (1, .long x1), (3, .int x3), (5, .long x5), (7, .int x7)] [] := by
  intro n0
  induction n0 with
  | zero =>
    intro x5 x7 mi ma hw
    exact hw.elim
  | succ n0 ih =>
    intro x5 x7 mi ma hw
    refine v_iload (q := 4) dX6_smooth_106 rfl ?_
    refine v_aload_n (q := 0) dX6_smooth_108 rfl rfl ?_
    refine vm_get hb 23 (Nat.le_of_ble_eq_true rfl) q1637 rfl dX6_smooth_109 rfl ?_
    obtain ⟨hw_17, hw_18⟩ := hw
    refine v_icmp_ge (tgt := 143) dX6_smooth_112 (by decide) (fun c_15 => ?_) (fun c_16 => ?_)
    · have hw := hw_17 c_15
      refine v_lload (q := 3) dX6_smooth_143 rfl ?_
      exact v_lret dX6_smooth_145 rfl ⟨_, rfl, _, _, rfl, hw⟩
    · have hw := hw_18 c_16
      refine v_lload (q := 3) dX6_smooth_115 rfl ?_
      refine v_aload_n (q := 0) dX6_smooth_117 rfl rfl ?_
      refine vm_get hb 21 (Nat.le_of_ble_eq_true rfl) q1635 rfl dX6_smooth_118 rfl ?_
      refine v_iload (q := 4) dX6_smooth_121 rfl ?_
      obtain ⟨hi_19, hw⟩ := hw
      refine v_iald dX6_smooth_123 (mH_ar21 hb) hi_19 ?_
      refine v_i2l dX6_smooth_124 ?_
      refine v_bipush dX6_smooth_125 bp_56 ?_
      refine v_bipush dX6_smooth_127 bp_8 ?_
      refine v_iload (q := 4) dX6_smooth_129 rfl ?_
      refine v_imul dX6_smooth_131 ?_
      refine v_isub dX6_smooth_132 ?_
      refine v_lshl dX6_smooth_133 ?_
      refine v_lor dX6_smooth_134 ?_
      refine v_topl (fun y_20 e_20 => ?_)
      replace hw := hw y_20 e_20
      refine v_lstore (lv1 := [(5, .long y_20), (0, va_rf (some (b 0))), (1, .long x1), (3, .int x3), (7, .int x7)]) dX6_smooth_135 (Nat.le_of_ble_eq_true rfl) rfl ?_
      obtain ⟨z_21, e_21⟩ : ∃ z9 : Int32, z9 = x7 + (nI 1) := ⟨_, rfl⟩
      replace hw := hw z_21 e_21
      refine v_iinc (q := 4) (v := z_21) (lv1 := [(7, .int z_21), (5, .long y_20), (0, va_rf (some (b 0))), (1, .long x1), (3, .int x3)]) dX6_smooth_137 rfl (by rw [e_21, ic_1]) (Nat.le_of_ble_eq_true rfl) rfl ?_
      refine v_goto (tgt := 106) dX6_smooth_140 (by decide) ?_
      refine v_sub [2, 3, 4, 1, 0] rfl ?_
      exact ih y_20 z_21 mi ma hw
theorem b_X6_smooth_100 {post : (Int64) → (Nat → Int32) → (Nat → Nat → Int32) → Prop}   {x1 : Int64} {x3 : Int32} {ml : Nat → Nat → Int64}  (hb : mOK b)   (mi : Nat → Int32) (ma : Nat → Nat → Int32) (hw : w_X6_smooth_100 post x1 x3 ml mi ma) : VV l E X cX6_smooth RX6 "smooth" 8 r_X6_smooth (some .long) (vpl (fun (r : Int64) (h' : AH) => ∃ (mi' : Nat → Int32) (ma' : Nat → Nat → Int32), h' = (mH b mi' ma' ml) ∧ post r mi' ma')) (mH b mi ma ml) 0 0 100 [(0, va_rf (some (b 0))), (1, .long x1), (3, .int x3)] [] := by
  refine v_lconst (v := lN 0) dX6_smooth_100 rfl ?_
  refine v_lstore (lv1 := [(5, .long (lN 0)), (0, va_rf (some (b 0))), (1, .long x1), (3, .int x3)]) dX6_smooth_101 (Nat.le_of_ble_eq_true rfl) rfl ?_
  refine v_iconst dX6_smooth_103 ic_0 ?_
  refine v_istore (lv1 := [(7, .int (nI 0)), (5, .long (lN 0)), (0, va_rf (some (b 0))), (1, .long x1), (3, .int x3)]) dX6_smooth_104 (Nat.le_of_ble_eq_true rfl) rfl ?_
  obtain ⟨n_22, hw⟩ := hw
  refine v_sub [2, 3, 4, 1, 0] rfl ?_
  exact b_X6_smooth_106 hb n_22 (lN 0) (nI 0) mi ma hw
theorem b_X6_smooth_45 {post : (Int64) → (Nat → Int32) → (Nat → Nat → Int32) → Prop}   {x1 : Int64} {x3 : Int32} {ml : Nat → Nat → Int64}  (hb : mOK b)   : ∀ (n0 : Nat) (x4 : Int32) (x5 : Int32) (mi : Nat → Int32) (ma : Nat → Nat → Int32), w_X6_smooth_45 post x1 x3 ml n0 x4 x5 mi ma → VV l E X cX6_smooth RX6 "smooth" 8 r_X6_smooth (some .long) (vpl (fun (r : Int64) (h' : AH) => ∃ (mi' : Nat → Int32) (ma' : Nat → Nat → Int32), h' = (mH b mi' ma' ml) ∧ post r mi' ma')) (mH b mi ma ml) 0 0 45 [(0, va_rf (some (b 0))), (1, .long x1), (3, .int x3), (4, .int x4), (5, .int x5)] [] := by
  intro n0
  induction n0 with
  | zero =>
    intro x4 x5 mi ma hw
    exact hw.elim
  | succ n0 ih =>
    intro x4 x5 mi ma hw
    refine v_iload (q := 4) dX6_smooth_45 rfl ?_
    refine v_bipush dX6_smooth_47 bp_12 ?_
    obtain ⟨hw_25, hw_26⟩ := hw
    refine v_icmp_ge (tgt := 100) dX6_smooth_49 (by decide) (fun c_23 => ?_) (fun c_24 => ?_)
    · have hw := hw_25 c_23
      refine v_sub [0, 1, 2] rfl ?_
      exact b_X6_smooth_100 hb mi ma hw
    · have hw := hw_26 c_24
      refine v_iload (q := 3) dX6_smooth_52 rfl ?_
      obtain ⟨hw_29, hw_30⟩ := hw
      refine v_if_eq (tgt := 100) dX6_smooth_54 (by decide) (fun c_27 => ?_) (fun c_28 => ?_)
      · have hw := hw_29 c_27
        refine v_sub [0, 1, 2] rfl ?_
        exact b_X6_smooth_100 hb mi ma hw
      · have hw := hw_30 c_28
        refine v_iconst dX6_smooth_57 ic_0 ?_
        refine v_istore (lv1 := [(4, .int (nI 0)), (0, va_rf (some (b 0))), (1, .long x1), (3, .int x3), (5, .int x5)]) dX6_smooth_58 (Nat.le_of_ble_eq_true rfl) rfl ?_
        refine v_iconst dX6_smooth_60 ic_0 ?_
        refine v_istore (lv1 := [(6, .int (nI 0)), (4, .int (nI 0)), (0, va_rf (some (b 0))), (1, .long x1), (3, .int x3), (5, .int x5)]) dX6_smooth_61 (Nat.le_of_ble_eq_true rfl) rfl ?_
        obtain ⟨n_31, hw⟩ := hw
        refine v_sub [2, 3, 4, 1, 5, 0] rfl ?_
        exact b_X6_smooth_63 hb (fun q0 q1 q2 q3 z => ih q0 q1 q2 q3 z) n_31 (nI 0) x5 (nI 0) mi ma hw
theorem b_X6_smooth_11 {post : (Int64) → (Nat → Int32) → (Nat → Nat → Int32) → Prop}   {x1 : Int64} {x3 : Int32} {ml : Nat → Nat → Int64}  (hb : mOK b)   : ∀ (n0 : Nat) (x4 : Int32) (mi : Nat → Int32) (ma : Nat → Nat → Int32), w_X6_smooth_11 post x1 x3 ml n0 x4 mi ma → VV l E X cX6_smooth RX6 "smooth" 8 r_X6_smooth (some .long) (vpl (fun (r : Int64) (h' : AH) => ∃ (mi' : Nat → Int32) (ma' : Nat → Nat → Int32), h' = (mH b mi' ma' ml) ∧ post r mi' ma')) (mH b mi ma ml) 0 0 11 [(0, va_rf (some (b 0))), (1, .long x1), (3, .int x3), (4, .int x4)] [] := by
  intro n0
  induction n0 with
  | zero =>
    intro x4 mi ma hw
    exact hw.elim
  | succ n0 ih =>
    intro x4 mi ma hw
    refine v_iload (q := 3) dX6_smooth_11 rfl ?_
    refine v_aload_n (q := 0) dX6_smooth_13 rfl rfl ?_
    refine vm_get hb 23 (Nat.le_of_ble_eq_true rfl) q1637 rfl dX6_smooth_14 rfl ?_
    obtain ⟨hw_34, hw_35⟩ := hw
    refine v_icmp_ge (tgt := 39) dX6_smooth_17 (by decide) (fun c_32 => ?_) (fun c_33 => ?_)
    · have hw := hw_34 c_32
      refine v_iconst dX6_smooth_39 ic_1 ?_
      refine v_istore (lv1 := [(4, .int (nI 1)), (0, va_rf (some (b 0))), (1, .long x1), (3, .int x3)]) dX6_smooth_40 (Nat.le_of_ble_eq_true rfl) rfl ?_
      refine v_iconst dX6_smooth_42 ic_0 ?_
      refine v_istore (lv1 := [(5, .int (nI 0)), (4, .int (nI 1)), (0, va_rf (some (b 0))), (1, .long x1), (3, .int x3)]) dX6_smooth_43 (Nat.le_of_ble_eq_true rfl) rfl ?_
      obtain ⟨n_36, hw⟩ := hw
      refine v_sub [2, 3, 4, 1, 0] rfl ?_
      exact b_X6_smooth_45 hb n_36 (nI 1) (nI 0) mi ma hw
    · have hw := hw_35 c_33
      refine v_aload_n (q := 0) dX6_smooth_20 rfl rfl ?_
      refine vm_get hb 21 (Nat.le_of_ble_eq_true rfl) q1635 rfl dX6_smooth_21 rfl ?_
      refine v_iload (q := 3) dX6_smooth_24 rfl ?_
      refine v_lload_n (q := 1) dX6_smooth_26 rfl rfl ?_
      refine v_iload (q := 3) dX6_smooth_27 rfl ?_
      refine v_callS q1756 q1757 q113 q1758 n_X6_wordAt ⟨Nat.le_of_ble_eq_true rfl, Nat.le_of_ble_eq_true rfl⟩ [.long x1, .int x4] [.int x4, va_rf (some (b 21))] (met_X6_wordAt hw) rfl (by simp only [List.map_cons, List.map_nil, List.sum_cons, List.sum_nil, v_rf1, v_cI, v_cJ]; decide) ⟨Nat.le_refl _, Nat.le_refl _⟩ dX6_smooth_29 rfl (v_ki (fun z_37 h1 hv => ?_))
      clear hw
      obtain ⟨e9, hw⟩ := hv
      refine v_heap e9 ?_
      clear e9
      obtain ⟨hi_38, hw⟩ := hw
      obtain ⟨ma_39, ema_39⟩ : ∃ z9 : Nat → Nat → Int32, z9 = mup ma 21 (x4).toNatClampNeg z_37 := ⟨_, rfl⟩
      replace hw := hw ma_39 ema_39
      refine v_iast dX6_smooth_32 (mH_ar21 hb) hi_38 ?_
      refine v_heap (h' := mH b mi ma_39 ml) (by rw [ema_39]; exact mH_st21 hb) ?_
      obtain ⟨z_40, e_40⟩ : ∃ z9 : Int32, z9 = x4 + (nI 1) := ⟨_, rfl⟩
      replace hw := hw z_40 e_40
      refine v_iinc (q := 3) (v := z_40) (lv1 := [(4, .int z_40), (0, va_rf (some (b 0))), (1, .long x1), (3, .int x3)]) dX6_smooth_33 rfl (by rw [e_40, ic_1]) (Nat.le_of_ble_eq_true rfl) rfl ?_
      refine v_goto (tgt := 11) dX6_smooth_36 (by decide) ?_
      refine v_sub [1, 2, 3, 0] rfl ?_
      exact ih z_40 mi ma_39 hw
theorem e_X6_smooth {post : (Int64) → (Nat → Int32) → (Nat → Nat → Int32) → Prop}   {x1 : Int64} {x3 : Int32} {mi : Nat → Int32} {ma : Nat → Nat → Int32} {ml : Nat → Nat → Int64} (hb : mOK b)  (hw : w_X6_smooth post  x1 x3 mi ma ml) : VV l E X cX6_smooth RX6 "smooth" 8 r_X6_smooth (some .long) (vpl (fun (r : Int64) (h' : AH) => ∃ (mi' : Nat → Int32) (ma' : Nat → Nat → Int32), h' = (mH b mi' ma' ml) ∧ post r mi' ma')) (mH b mi ma ml) 0 0 0 [(0, va_rf (some (b 0))), (1, .long x1), (3, .int x3)] [] := by
  refine v_aload_n (q := 0) dX6_smooth_0 rfl rfl ?_
  refine v_lload_n (q := 1) dX6_smooth_1 rfl rfl ?_
  refine v_callS q1753 q1754 q113 q1755 n_X6_lengthOf ⟨Nat.le_of_ble_eq_true rfl, Nat.le_of_ble_eq_true rfl⟩ [.long x1] [va_rf (some (b 0))] (met_X6_lengthOf hw) rfl (by simp only [List.map_cons, List.map_nil, List.sum_cons, List.sum_nil, v_rf1, v_cI, v_cJ]; decide) ⟨Nat.le_refl _, Nat.le_refl _⟩ dX6_smooth_2 rfl (v_ki (fun z_41 h1 hv => ?_))
  clear hw
  obtain ⟨e9, hw⟩ := hv
  refine v_heap e9 ?_
  clear e9
  obtain ⟨mi_42, emi_42⟩ : ∃ z9 : Nat → Int32, z9 = upd mi 23 z_41 := ⟨_, rfl⟩
  replace hw := hw mi_42 emi_42
  refine vm_put hb 23 (Nat.le_of_ble_eq_true rfl) q1637 rfl rfl rfl dX6_smooth_5 emi_42 rfl ?_
  refine v_iconst dX6_smooth_8 ic_0 ?_
  refine v_istore (lv1 := [(4, .int (nI 0)), (0, va_rf (some (b 0))), (1, .long x1), (3, .int x3)]) dX6_smooth_9 (Nat.le_of_ble_eq_true rfl) rfl ?_
  obtain ⟨n_43, hw⟩ := hw
  refine v_sub [1, 2, 3, 0] rfl ?_
  exact b_X6_smooth_11 hb n_43 (nI 0) mi_42 ma hw
theorem met_X6_smooth {post : (Int64) → (Nat → Int32) → (Nat → Nat → Int32) → Prop}   {x1 : Int64} {x3 : Int32} {mi : Nat → Int32} {ma : Nat → Nat → Int32} {ml : Nat → Nat → Int64} (hb : mOK b)  (hw : w_X6_smooth post  x1 x3 mi ma ml) : Mt l E yX6_smooth (ws_ yX6_smooth cX6_smooth 8 (some .long)) r_X6_smooth [va_rf (some (b 0)), .long x1, .int x3] (mH b mi ma ml) (vpl (fun (r : Int64) (h' : AH) => ∃ (mi' : Nat → Int32) (ma' : Nat → Nat → Int32), h' = (mH b mi' ma' ml) ∧ post r mi' ma')) := v_entry (by decide +kernel) (Nat.le_of_ble_eq_true rfl) rfl (fun _ => e_X6_smooth hb hw)
/-! X6_smoothed -/
abbrev r_X6_smoothed : Room := { frames := 4, cells := 0, slots := 0, locals := 104 }
theorem n_X6_smoothed : vdn yX6_smoothed 2 := ⟨by decide +kernel, by decide +kernel, by decide +kernel⟩
def w_X6_smoothed_24 (post : (Int64) → (Nat → Int32) → (Nat → Nat → Int32) → Prop) (x1 : Int64) (x3 : Int32) (ml : Nat → Nat → Int64) (mi : Nat → Int32) (ma : Nat → Nat → Int32) : Prop :=
 (w_X6_no (fun (z_1 : Int32) (ma_2 : Nat → Nat → Int32) => (post ((z_1).toInt64) mi ma_2)) (-3) mi ma ml)
def w_X6_smoothed (post : (Int64) → (Nat → Int32) → (Nat → Nat → Int32) → Prop) (x1 : Int64) (x3 : Int32) (mi : Nat → Int32) (ma : Nat → Nat → Int32) (ml : Nat → Nat → Int64) : Prop :=
 (∀ mi_3 : Nat → Int32, mi_3 = upd mi 0 (nI 0) → (w_X6_lengthOf (fun (z_4 : Int32) => ((z_4 = 0 → (w_X6_smoothed_24 post x1 x3 ml mi_3 ma)) ∧ (¬ z_4 = 0 → (w_X6_within (fun (z_9 : Int32) => ((¬ z_9 = 0 → (w_X6_smooth (fun (y_14 : Int64) (mi_15 : Nat → Int32) (ma_16 : Nat → Nat → Int32) => (post y_14 mi_15 ma_16)) x1 x3 mi_3 ma ml)) ∧ (z_9 = 0 → (w_X6_smoothed_24 post x1 x3 ml mi_3 ma)))) ((x3).toInt64) (lN 0) (lN 9))))) x1))
theorem b_X6_smoothed_24 {post : (Int64) → (Nat → Int32) → (Nat → Nat → Int32) → Prop}   {x1 : Int64} {x3 : Int32} {ml : Nat → Nat → Int64}  (hb : mOK b)   (mi : Nat → Int32) (ma : Nat → Nat → Int32) (hw : w_X6_smoothed_24 post x1 x3 ml mi ma) : VV l E X cX6_smoothed RX6 "smoothed" 4 r_X6_smoothed (some .long) (vpl (fun (r : Int64) (h' : AH) => ∃ (mi' : Nat → Int32) (ma' : Nat → Nat → Int32), h' = (mH b mi' ma' ml) ∧ post r mi' ma')) (mH b mi ma ml) 0 0 24 [(0, va_rf (some (b 0))), (1, .long x1), (3, .int x3)] [] := by
  refine v_aload_n (q := 0) dX6_smoothed_24 rfl rfl ?_
  refine v_bipush dX6_smoothed_25 bp_m3 ?_
  refine v_callV q1737 q1739 qs53 q113 q1740 (ci := 7) rfl (mH_obj hb) n_X6_no ⟨Nat.le_of_ble_eq_true rfl, Nat.le_of_ble_eq_true rfl⟩ [.int (-3)] [] (met_X6_no hb hw) rfl (Nat.zero_le _) ⟨Nat.le_refl _, Nat.le_refl _⟩ dX6_smoothed_27 rfl (v_ki (fun z_1 h1 hv => ?_))
  clear hw
  obtain ⟨ma_2, rfl, hw⟩ := hv
  refine v_i2l dX6_smoothed_30 ?_
  exact v_lret dX6_smoothed_31 rfl ⟨_, rfl, _, _, rfl, hw⟩
theorem e_X6_smoothed {post : (Int64) → (Nat → Int32) → (Nat → Nat → Int32) → Prop}   {x1 : Int64} {x3 : Int32} {mi : Nat → Int32} {ma : Nat → Nat → Int32} {ml : Nat → Nat → Int64} (hb : mOK b)  (hw : w_X6_smoothed post  x1 x3 mi ma ml) : VV l E X cX6_smoothed RX6 "smoothed" 4 r_X6_smoothed (some .long) (vpl (fun (r : Int64) (h' : AH) => ∃ (mi' : Nat → Int32) (ma' : Nat → Nat → Int32), h' = (mH b mi' ma' ml) ∧ post r mi' ma')) (mH b mi ma ml) 0 0 0 [(0, va_rf (some (b 0))), (1, .long x1), (3, .int x3)] [] := by
  refine v_aload_n (q := 0) dX6_smoothed_0 rfl rfl ?_
  refine v_iconst dX6_smoothed_1 ic_0 ?_
  obtain ⟨mi_3, emi_3⟩ : ∃ z9 : Nat → Int32, z9 = upd mi 0 (nI 0) := ⟨_, rfl⟩
  replace hw := hw mi_3 emi_3
  refine vm_put hb 0 (Nat.le_of_ble_eq_true rfl) q1614 rfl rfl rfl dX6_smoothed_2 emi_3 rfl ?_
  refine v_lload_n (q := 1) dX6_smoothed_5 rfl rfl ?_
  refine v_callS q1753 q1754 q113 q1755 n_X6_lengthOf ⟨Nat.le_of_ble_eq_true rfl, Nat.le_of_ble_eq_true rfl⟩ [.long x1] [] (met_X6_lengthOf hw) rfl (Nat.zero_le _) ⟨Nat.le_refl _, Nat.le_refl _⟩ dX6_smoothed_6 rfl (v_ki (fun z_4 h1 hv => ?_))
  clear hw
  obtain ⟨e9, hw⟩ := hv
  refine v_heap e9 ?_
  clear e9
  obtain ⟨hw_7, hw_8⟩ := hw
  refine v_if_eq (tgt := 24) dX6_smoothed_9 (by decide) (fun c_5 => ?_) (fun c_6 => ?_)
  · have hw := hw_7 c_5
    refine v_sub [0, 1, 2] rfl ?_
    exact b_X6_smoothed_24 hb mi_3 ma hw
  · have hw := hw_8 c_6
    refine v_iload_n (q := 2) dX6_smoothed_12 rfl rfl ?_
    refine v_i2l dX6_smoothed_13 ?_
    refine v_lconst (v := lN 0) dX6_smoothed_14 rfl ?_
    refine v_ldc2 (v := (lN 9)) dX6_smoothed_15 q1741 ?_
    refine v_callS q1734 q1735 q113 q1736 n_X6_within ⟨Nat.le_of_ble_eq_true rfl, Nat.le_of_ble_eq_true rfl⟩ [.long ((x3).toInt64), .long (lN 0), .long (lN 9)] [] (met_X6_within hw) rfl (Nat.zero_le _) ⟨Nat.le_refl _, Nat.le_refl _⟩ dX6_smoothed_18 rfl (v_ki (fun z_9 h1 hv => ?_))
    clear hw
    obtain ⟨e9, hw⟩ := hv
    refine v_heap e9 ?_
    clear e9
    obtain ⟨hw_12, hw_13⟩ := hw
    refine v_if_ne (tgt := 32) dX6_smoothed_21 (by decide) (fun c_10 => ?_) (fun c_11 => ?_)
    · have hw := hw_12 c_10
      refine v_aload_n (q := 0) dX6_smoothed_32 rfl rfl ?_
      refine v_lload_n (q := 1) dX6_smoothed_33 rfl rfl ?_
      refine v_iload_n (q := 2) dX6_smoothed_34 rfl rfl ?_
      refine v_callV q1874 q1876 qs72 q113 q1877 (ci := 7) rfl (mH_obj hb) n_X6_smooth ⟨Nat.le_of_ble_eq_true rfl, Nat.le_of_ble_eq_true rfl⟩ [.long x1, .int x3] [] (met_X6_smooth hb hw) rfl (Nat.zero_le _) ⟨Nat.le_refl _, Nat.le_refl _⟩ dX6_smoothed_35 rfl (v_kl (fun y_14 h1 hv => ?_))
      clear hw
      obtain ⟨mi_15, ma_16, rfl, hw⟩ := hv
      exact v_lret dX6_smoothed_38 rfl ⟨_, rfl, _, _, rfl, hw⟩
    · have hw := hw_13 c_11
      refine v_sub [0, 1, 2] rfl ?_
      exact b_X6_smoothed_24 hb mi_3 ma hw
theorem met_X6_smoothed {post : (Int64) → (Nat → Int32) → (Nat → Nat → Int32) → Prop}   {x1 : Int64} {x3 : Int32} {mi : Nat → Int32} {ma : Nat → Nat → Int32} {ml : Nat → Nat → Int64} (hb : mOK b)  (hw : w_X6_smoothed post  x1 x3 mi ma ml) : Mt l E yX6_smoothed (ws_ yX6_smoothed cX6_smoothed 4 (some .long)) r_X6_smoothed [va_rf (some (b 0)), .long x1, .int x3] (mH b mi ma ml) (vpl (fun (r : Int64) (h' : AH) => ∃ (mi' : Nat → Int32) (ma' : Nat → Nat → Int32), h' = (mH b mi' ma' ml) ∧ post r mi' ma')) := v_entry (by decide +kernel) (Nat.le_of_ble_eq_true rfl) rfl (fun _ => e_X6_smoothed hb hw)
/-! X6_draw -/
abbrev r_X6_draw : Room := { frames := 0, cells := 0, slots := 0, locals := 0 }
theorem n_X6_draw : vdn yX6_draw 0 := ⟨by decide +kernel, by decide +kernel, by decide +kernel⟩
def w_X6_draw (post : (Int32) → (Nat → Int32) → Prop) (mi : Nat → Int32) (ma : Nat → Nat → Int32) (ml : Nat → Nat → Int64) : Prop :=
 (∀ mi_1 : Nat → Int32, mi_1 = upd mi 25 (((nI 1103515245) * (mi 25)) + (nI 12345)) → (post ((((mi_1 25)).toUInt32 >>> (((nI 16)).toUInt32 &&& Int32.toUInt32 31)).toInt32 - (((mi_1 25)).toUInt32 >>> (((nI 16)).toUInt32 &&& Int32.toUInt32 31)).toInt32 / (nI 100) * (nI 100)) mi_1))
theorem e_X6_draw {post : (Int32) → (Nat → Int32) → Prop}   {mi : Nat → Int32} {ma : Nat → Nat → Int32} {ml : Nat → Nat → Int64} (hb : mOK b)  (hw : w_X6_draw post  mi ma ml) : VV l E X cX6_draw RX6 "draw" 1 r_X6_draw (some .int) (vpi (fun (r : Int32) (h' : AH) => ∃ (mi' : Nat → Int32), h' = (mH b mi' ma ml) ∧ post r mi')) (mH b mi ma ml) 0 0 0 [(0, va_rf (some (b 0)))] [] := by
  refine v_aload_n (q := 0) dX6_draw_0 rfl rfl ?_
  refine v_ldc (v := (nI 1103515245)) dX6_draw_1 q1902 ?_
  refine v_aload_n (q := 0) dX6_draw_3 rfl rfl ?_
  refine vm_get hb 25 (Nat.le_of_ble_eq_true rfl) q1639 rfl dX6_draw_4 rfl ?_
  refine v_imul dX6_draw_7 ?_
  refine v_sipush dX6_draw_8 sp_12345 ?_
  refine v_iadd dX6_draw_11 ?_
  obtain ⟨mi_1, emi_1⟩ : ∃ z9 : Nat → Int32, z9 = upd mi 25 (((nI 1103515245) * (mi 25)) + (nI 12345)) := ⟨_, rfl⟩
  replace hw := hw mi_1 emi_1
  refine vm_put hb 25 (Nat.le_of_ble_eq_true rfl) q1639 rfl rfl rfl dX6_draw_12 emi_1 rfl ?_
  refine v_aload_n (q := 0) dX6_draw_15 rfl rfl ?_
  refine vm_get hb 25 (Nat.le_of_ble_eq_true rfl) q1639 rfl dX6_draw_16 rfl ?_
  refine v_bipush dX6_draw_19 bp_16 ?_
  refine v_iushr dX6_draw_21 ?_
  refine v_bipush dX6_draw_22 bp_100 ?_
  refine v_irem dX6_draw_24 (by decide) ?_
  exact v_iret dX6_draw_25 rfl ⟨_, rfl, _, rfl, hw⟩
theorem met_X6_draw {post : (Int32) → (Nat → Int32) → Prop}   {mi : Nat → Int32} {ma : Nat → Nat → Int32} {ml : Nat → Nat → Int64} (hb : mOK b)  (hw : w_X6_draw post  mi ma ml) : Mt l E yX6_draw (ws_ yX6_draw cX6_draw 1 (some .int)) r_X6_draw [va_rf (some (b 0))] (mH b mi ma ml) (vpi (fun (r : Int32) (h' : AH) => ∃ (mi' : Nat → Int32), h' = (mH b mi' ma ml) ∧ post r mi')) := v_entry (by decide +kernel) (Nat.le_of_ble_eq_true rfl) rfl (fun _ => e_X6_draw hb hw)
/-! X6_said -/
abbrev r_X6_said : Room := { frames := 2, cells := 0, slots := 0, locals := 44 }
theorem n_X6_said : vdn yX6_said 1 := ⟨by decide +kernel, by decide +kernel, by decide +kernel⟩
def w_X6_said_80 (post : (Int64) → Prop) (k11 : (Int64) → (Int32) → (Int32) → Prop) (k32 : (Int64) → (Int32) → (Int32) → (Int32) → (Int32) → (Int32) → Prop) (x1 : Int64) (mi : Nat → Int32) (ma : Nat → Nat → Int32) (ml : Nat → Nat → Int64) (x3 : Int64) (x5 : Int32) (x6 : Int32) (x7 : Int32) (x8 : Int32) (x9 : Int32) : Prop :=
 (∀ z_1 : Int32, z_1 = x9 + (nI 1) → (k32 x3 x5 x6 x7 x8 z_1))
def w_X6_said_86 (post : (Int64) → Prop) (k11 : (Int64) → (Int32) → (Int32) → Prop) (x1 : Int64) (mi : Nat → Int32) (ma : Nat → Nat → Int32) (ml : Nat → Nat → Int64) (x3 : Int64) (x5 : Int32) (x6 : Int32) (x7 : Int32) : Prop :=
 (∀ y_2 : Int64, y_2 = (x3 ||| (((x7).toInt64) <<< ((((nI 56) - ((nI 8) * x6))).toInt64 &&& 63))) → (∀ z_3 : Int32, z_3 = x6 + (nI 1) → (k11 y_2 x5 z_3)))
def w_X6_said_32 (post : (Int64) → Prop) (k11 : (Int64) → (Int32) → (Int32) → Prop) (x1 : Int64) (mi : Nat → Int32) (ma : Nat → Nat → Int32) (ml : Nat → Nat → Int64) : Nat → (Int64) → (Int32) → (Int32) → (Int32) → (Int32) → (Int32) → Prop
 | 0, _, _, _, _, _, _ => False
 | n0 + 1, x3, x5, x6, x7, x8, x9 =>
 (vp_in (nI 4) 116 ∧ (((ma 7 ((nI 4)).toNatClampNeg) ≤ x9 → (w_X6_said_86 post k11 x1 mi ma ml x3 x5 x6 x7)) ∧ (¬ (ma 7 ((nI 4)).toNatClampNeg) ≤ x9 → ((¬ x8 = 0 → (w_X6_said_86 post k11 x1 mi ma ml x3 x5 x6 x7)) ∧ (x8 = 0 → (vp_in ((nI 17) + x9) 116 ∧ (((ma 7 (((nI 17) + x9)).toNatClampNeg) = x7 → (vp_in ((nI 5) + x9) 116 ∧ (∀ z_19 : Int32, z_19 = (ma 7 (((nI 5) + x9)).toNatClampNeg) → (w_X6_said_80 post k11 (fun (q0 : Int64) (q1 : Int32) (q2 : Int32) (q3 : Int32) (q4 : Int32) (q5 : Int32) => w_X6_said_32 post k11 x1 mi ma ml n0 q0 q1 q2 q3 q4 q5) x1 mi ma ml x3 x5 x6 z_19 (nI 1) x9)))) ∧ (¬ (ma 7 (((nI 17) + x9)).toNatClampNeg) = x7 → (w_X6_said_80 post k11 (fun (q0 : Int64) (q1 : Int32) (q2 : Int32) (q3 : Int32) (q4 : Int32) (q5 : Int32) => w_X6_said_32 post k11 x1 mi ma ml n0 q0 q1 q2 q3 q4 q5) x1 mi ma ml x3 x5 x6 x7 x8 x9)))))))))
def w_X6_said_11 (post : (Int64) → Prop) (x1 : Int64) (mi : Nat → Int32) (ma : Nat → Nat → Int32) (ml : Nat → Nat → Int64) : Nat → (Int64) → (Int32) → (Int32) → Prop
 | 0, _, _, _ => False
 | n0 + 1, x3, x5, x6 =>
 ((x5 ≤ x6 → (post x3)) ∧ (¬ x5 ≤ x6 → (w_X6_wordAt (fun (z_24 : Int32) => (∃ n1 : Nat, (w_X6_said_32 post (fun (q0 : Int64) (q1 : Int32) (q2 : Int32) => w_X6_said_11 post x1 mi ma ml n0 q0 q1 q2) x1 mi ma ml n1 x3 x5 x6 z_24 (nI 0) (nI 0)))) x1 x6)))
def w_X6_said (post : (Int64) → Prop) (x1 : Int64) (mi : Nat → Int32) (ma : Nat → Nat → Int32) (ml : Nat → Nat → Int64) : Prop :=
 (w_X6_lengthOf (fun (z_26 : Int32) => (∃ n1 : Nat, (w_X6_said_11 post x1 mi ma ml n1 (lN 0) z_26 (nI 0)))) x1)
theorem b_X6_said_80 {post : (Int64) → Prop}   {x1 : Int64} {mi : Nat → Int32} {ma : Nat → Nat → Int32} {ml : Nat → Nat → Int64} {k11 : (Int64) → (Int32) → (Int32) → Prop} {k32 : (Int64) → (Int32) → (Int32) → (Int32) → (Int32) → (Int32) → Prop} (hb : mOK b)  (hk11 : ∀ (x3 : Int64) (x5 : Int32) (x6 : Int32), k11 x3 x5 x6 → VV l E X cX6_said RX6 "said" 10 r_X6_said (some .long) (vpl (fun (r : Int64) (h' : AH) => h' = (mH b mi ma ml) ∧ post r)) (mH b mi ma ml) 0 0 11 [(0, va_rf (some (b 0))), (1, .long x1), (3, .long x3), (5, .int x5), (6, .int x6)] []) (hk32 : ∀ (x3 : Int64) (x5 : Int32) (x6 : Int32) (x7 : Int32) (x8 : Int32) (x9 : Int32), k32 x3 x5 x6 x7 x8 x9 → VV l E X cX6_said RX6 "said" 10 r_X6_said (some .long) (vpl (fun (r : Int64) (h' : AH) => h' = (mH b mi ma ml) ∧ post r)) (mH b mi ma ml) 0 0 32 [(0, va_rf (some (b 0))), (1, .long x1), (3, .long x3), (5, .int x5), (6, .int x6), (7, .int x7), (8, .int x8), (9, .int x9)] []) (x3 : Int64) (x5 : Int32) (x6 : Int32) (x7 : Int32) (x8 : Int32) (x9 : Int32) (hw : w_X6_said_80 post k11 k32 x1 mi ma ml x3 x5 x6 x7 x8 x9) : VV l E X cX6_said RX6 "said" 10 r_X6_said (some .long) (vpl (fun (r : Int64) (h' : AH) => h' = (mH b mi ma ml) ∧ post r)) (mH b mi ma ml) 0 0 80 [(0, va_rf (some (b 0))), (1, .long x1), (3, .long x3), (5, .int x5), (6, .int x6), (7, .int x7), (8, .int x8), (9, .int x9)] [] := by
  obtain ⟨z_1, e_1⟩ : ∃ z9 : Int32, z9 = x9 + (nI 1) := ⟨_, rfl⟩
  replace hw := hw z_1 e_1
  refine v_iinc (q := 7) (v := z_1) (lv1 := [(9, .int z_1), (0, va_rf (some (b 0))), (1, .long x1), (3, .long x3), (5, .int x5), (6, .int x6), (7, .int x7), (8, .int x8)]) dX6_said_80 rfl (by rw [e_1, ic_1]) (Nat.le_of_ble_eq_true rfl) rfl ?_
  refine v_goto (tgt := 32) dX6_said_83 (by decide) ?_
  refine v_sub [1, 2, 3, 4, 5, 6, 7, 0] rfl ?_
  exact hk32 x3 x5 x6 x7 x8 z_1 hw
theorem b_X6_said_86 {post : (Int64) → Prop}   {x1 : Int64} {mi : Nat → Int32} {ma : Nat → Nat → Int32} {ml : Nat → Nat → Int64} {k11 : (Int64) → (Int32) → (Int32) → Prop} (hb : mOK b)  (hk11 : ∀ (x3 : Int64) (x5 : Int32) (x6 : Int32), k11 x3 x5 x6 → VV l E X cX6_said RX6 "said" 10 r_X6_said (some .long) (vpl (fun (r : Int64) (h' : AH) => h' = (mH b mi ma ml) ∧ post r)) (mH b mi ma ml) 0 0 11 [(0, va_rf (some (b 0))), (1, .long x1), (3, .long x3), (5, .int x5), (6, .int x6)] []) (x3 : Int64) (x5 : Int32) (x6 : Int32) (x7 : Int32) (hw : w_X6_said_86 post k11 x1 mi ma ml x3 x5 x6 x7) : VV l E X cX6_said RX6 "said" 10 r_X6_said (some .long) (vpl (fun (r : Int64) (h' : AH) => h' = (mH b mi ma ml) ∧ post r)) (mH b mi ma ml) 0 0 86 [(0, va_rf (some (b 0))), (1, .long x1), (3, .long x3), (5, .int x5), (6, .int x6), (7, .int x7)] [] := by
  refine v_lload_n (q := 2) dX6_said_86 rfl rfl ?_
  refine v_iload (q := 5) dX6_said_87 rfl ?_
  refine v_i2l dX6_said_89 ?_
  refine v_bipush dX6_said_90 bp_56 ?_
  refine v_bipush dX6_said_92 bp_8 ?_
  refine v_iload (q := 4) dX6_said_94 rfl ?_
  refine v_imul dX6_said_96 ?_
  refine v_isub dX6_said_97 ?_
  refine v_lshl dX6_said_98 ?_
  refine v_lor dX6_said_99 ?_
  refine v_topl (fun y_2 e_2 => ?_)
  replace hw := hw y_2 e_2
  refine v_lstore_n (lv1 := [(3, .long y_2), (0, va_rf (some (b 0))), (1, .long x1), (5, .int x5), (6, .int x6), (7, .int x7)]) dX6_said_100 rfl (Nat.le_of_ble_eq_true rfl) rfl ?_
  obtain ⟨z_3, e_3⟩ : ∃ z9 : Int32, z9 = x6 + (nI 1) := ⟨_, rfl⟩
  replace hw := hw z_3 e_3
  refine v_iinc (q := 4) (v := z_3) (lv1 := [(6, .int z_3), (3, .long y_2), (0, va_rf (some (b 0))), (1, .long x1), (5, .int x5), (7, .int x7)]) dX6_said_101 rfl (by rw [e_3, ic_1]) (Nat.le_of_ble_eq_true rfl) rfl ?_
  refine v_goto (tgt := 11) dX6_said_104 (by decide) ?_
  refine v_sub [2, 3, 1, 4, 0] rfl ?_
  exact hk11 y_2 x5 z_3 hw
theorem b_X6_said_32 {post : (Int64) → Prop}   {x1 : Int64} {mi : Nat → Int32} {ma : Nat → Nat → Int32} {ml : Nat → Nat → Int64} {k11 : (Int64) → (Int32) → (Int32) → Prop} (hb : mOK b)  (hk11 : ∀ (x3 : Int64) (x5 : Int32) (x6 : Int32), k11 x3 x5 x6 → VV l E X cX6_said RX6 "said" 10 r_X6_said (some .long) (vpl (fun (r : Int64) (h' : AH) => h' = (mH b mi ma ml) ∧ post r)) (mH b mi ma ml) 0 0 11 [(0, va_rf (some (b 0))), (1, .long x1), (3, .long x3), (5, .int x5), (6, .int x6)] []) : ∀ (n0 : Nat) (x3 : Int64) (x5 : Int32) (x6 : Int32) (x7 : Int32) (x8 : Int32) (x9 : Int32), w_X6_said_32 post k11 x1 mi ma ml n0 x3 x5 x6 x7 x8 x9 → VV l E X cX6_said RX6 "said" 10 r_X6_said (some .long) (vpl (fun (r : Int64) (h' : AH) => h' = (mH b mi ma ml) ∧ post r)) (mH b mi ma ml) 0 0 32 [(0, va_rf (some (b 0))), (1, .long x1), (3, .long x3), (5, .int x5), (6, .int x6), (7, .int x7), (8, .int x8), (9, .int x9)] [] := by
  intro n0
  induction n0 with
  | zero =>
    intro x3 x5 x6 x7 x8 x9 hw
    exact hw.elim
  | succ n0 ih =>
    intro x3 x5 x6 x7 x8 x9 hw
    refine v_iload (q := 7) dX6_said_32 rfl ?_
    refine v_aload_n (q := 0) dX6_said_34 rfl rfl ?_
    refine vm_get hb 7 (Nat.le_of_ble_eq_true rfl) q1621 rfl dX6_said_35 rfl ?_
    refine v_iconst dX6_said_38 ic_4 ?_
    obtain ⟨hi_4, hw⟩ := hw
    refine v_iald dX6_said_39 (mH_ar7 hb) hi_4 ?_
    obtain ⟨hw_7, hw_8⟩ := hw
    refine v_icmp_ge (tgt := 86) dX6_said_40 (by decide) (fun c_5 => ?_) (fun c_6 => ?_)
    · have hw := hw_7 c_5
      refine v_sub [0, 1, 2, 3, 4, 5] rfl ?_
      exact b_X6_said_86 hb hk11 x3 x5 x6 x7 hw
    · have hw := hw_8 c_6
      refine v_iload (q := 6) dX6_said_43 rfl ?_
      obtain ⟨hw_11, hw_12⟩ := hw
      refine v_if_ne (tgt := 86) dX6_said_45 (by decide) (fun c_9 => ?_) (fun c_10 => ?_)
      · have hw := hw_11 c_9
        refine v_sub [0, 1, 2, 3, 4, 5] rfl ?_
        exact b_X6_said_86 hb hk11 x3 x5 x6 x7 hw
      · have hw := hw_12 c_10
        refine v_aload_n (q := 0) dX6_said_48 rfl rfl ?_
        refine vm_get hb 7 (Nat.le_of_ble_eq_true rfl) q1621 rfl dX6_said_49 rfl ?_
        refine v_bipush dX6_said_52 bp_17 ?_
        refine v_iload (q := 7) dX6_said_54 rfl ?_
        refine v_iadd dX6_said_56 ?_
        obtain ⟨hi_13, hw⟩ := hw
        refine v_iald dX6_said_57 (mH_ar7 hb) hi_13 ?_
        refine v_iload (q := 5) dX6_said_58 rfl ?_
        obtain ⟨hw_16, hw_17⟩ := hw
        refine v_icmp_eq (tgt := 66) dX6_said_60 (by decide) (fun c_14 => ?_) (fun c_15 => ?_)
        · have hw := hw_16 c_14
          refine v_aload_n (q := 0) dX6_said_66 rfl rfl ?_
          refine vm_get hb 7 (Nat.le_of_ble_eq_true rfl) q1621 rfl dX6_said_67 rfl ?_
          refine v_iconst dX6_said_70 ic_5 ?_
          refine v_iload (q := 7) dX6_said_71 rfl ?_
          refine v_iadd dX6_said_73 ?_
          obtain ⟨hi_18, hw⟩ := hw
          refine v_iald dX6_said_74 (mH_ar7 hb) hi_18 ?_
          refine v_topi (fun z_19 e_19 => ?_)
          replace hw := hw z_19 e_19
          refine v_istore (lv1 := [(7, .int z_19), (0, va_rf (some (b 0))), (1, .long x1), (3, .long x3), (5, .int x5), (6, .int x6), (8, .int x8), (9, .int x9)]) dX6_said_75 (Nat.le_of_ble_eq_true rfl) rfl ?_
          refine v_iconst dX6_said_77 ic_1 ?_
          refine v_istore (lv1 := [(8, .int (nI 1)), (7, .int z_19), (0, va_rf (some (b 0))), (1, .long x1), (3, .long x3), (5, .int x5), (6, .int x6), (9, .int x9)]) dX6_said_78 (Nat.le_of_ble_eq_true rfl) rfl ?_
          refine v_sub [2, 3, 4, 5, 6, 1, 0, 7] rfl ?_
          exact b_X6_said_80 hb hk11 (fun q0 q1 q2 q3 q4 q5 z => ih q0 q1 q2 q3 q4 q5 z) x3 x5 x6 z_19 (nI 1) x9 hw
        · have hw := hw_17 c_15
          refine v_goto (tgt := 80) dX6_said_63 (by decide) ?_
          refine v_sub [0, 1, 2, 3, 4, 5, 6, 7] rfl ?_
          exact b_X6_said_80 hb hk11 (fun q0 q1 q2 q3 q4 q5 z => ih q0 q1 q2 q3 q4 q5 z) x3 x5 x6 x7 x8 x9 hw
theorem b_X6_said_11 {post : (Int64) → Prop}   {x1 : Int64} {mi : Nat → Int32} {ma : Nat → Nat → Int32} {ml : Nat → Nat → Int64}  (hb : mOK b)   : ∀ (n0 : Nat) (x3 : Int64) (x5 : Int32) (x6 : Int32), w_X6_said_11 post x1 mi ma ml n0 x3 x5 x6 → VV l E X cX6_said RX6 "said" 10 r_X6_said (some .long) (vpl (fun (r : Int64) (h' : AH) => h' = (mH b mi ma ml) ∧ post r)) (mH b mi ma ml) 0 0 11 [(0, va_rf (some (b 0))), (1, .long x1), (3, .long x3), (5, .int x5), (6, .int x6)] [] := by
  intro n0
  induction n0 with
  | zero =>
    intro x3 x5 x6 hw
    exact hw.elim
  | succ n0 ih =>
    intro x3 x5 x6 hw
    refine v_iload (q := 4) dX6_said_11 rfl ?_
    refine v_iload (q := 3) dX6_said_13 rfl ?_
    obtain ⟨hw_22, hw_23⟩ := hw
    refine v_icmp_ge (tgt := 107) dX6_said_15 (by decide) (fun c_20 => ?_) (fun c_21 => ?_)
    · have hw := hw_22 c_20
      refine v_lload_n (q := 2) dX6_said_107 rfl rfl ?_
      exact v_lret dX6_said_108 rfl ⟨_, rfl, rfl, hw⟩
    · have hw := hw_23 c_21
      refine v_lload_n (q := 1) dX6_said_18 rfl rfl ?_
      refine v_iload (q := 4) dX6_said_19 rfl ?_
      refine v_callS q1756 q1757 q113 q1758 n_X6_wordAt ⟨Nat.le_of_ble_eq_true rfl, Nat.le_of_ble_eq_true rfl⟩ [.long x1, .int x6] [] (met_X6_wordAt hw) rfl (Nat.zero_le _) ⟨Nat.le_refl _, Nat.le_refl _⟩ dX6_said_21 rfl (v_ki (fun z_24 h1 hv => ?_))
      clear hw
      obtain ⟨e9, hw⟩ := hv
      refine v_heap e9 ?_
      clear e9
      refine v_istore (lv1 := [(7, .int z_24), (0, va_rf (some (b 0))), (1, .long x1), (3, .long x3), (5, .int x5), (6, .int x6)]) dX6_said_24 (Nat.le_of_ble_eq_true rfl) rfl ?_
      refine v_iconst dX6_said_26 ic_0 ?_
      refine v_istore (lv1 := [(8, .int (nI 0)), (7, .int z_24), (0, va_rf (some (b 0))), (1, .long x1), (3, .long x3), (5, .int x5), (6, .int x6)]) dX6_said_27 (Nat.le_of_ble_eq_true rfl) rfl ?_
      refine v_iconst dX6_said_29 ic_0 ?_
      refine v_istore (lv1 := [(9, .int (nI 0)), (8, .int (nI 0)), (7, .int z_24), (0, va_rf (some (b 0))), (1, .long x1), (3, .long x3), (5, .int x5), (6, .int x6)]) dX6_said_30 (Nat.le_of_ble_eq_true rfl) rfl ?_
      obtain ⟨n_25, hw⟩ := hw
      refine v_sub [3, 4, 5, 6, 7, 2, 1, 0] rfl ?_
      exact b_X6_said_32 hb (fun q0 q1 q2 z => ih q0 q1 q2 z) n_25 x3 x5 x6 z_24 (nI 0) (nI 0) hw
theorem e_X6_said {post : (Int64) → Prop}   {x1 : Int64} {mi : Nat → Int32} {ma : Nat → Nat → Int32} {ml : Nat → Nat → Int64} (hb : mOK b)  (hw : w_X6_said post  x1 mi ma ml) : VV l E X cX6_said RX6 "said" 10 r_X6_said (some .long) (vpl (fun (r : Int64) (h' : AH) => h' = (mH b mi ma ml) ∧ post r)) (mH b mi ma ml) 0 0 0 [(0, va_rf (some (b 0))), (1, .long x1)] [] := by
  refine v_lconst (v := lN 0) dX6_said_0 rfl ?_
  refine v_lstore_n (lv1 := [(3, .long (lN 0)), (0, va_rf (some (b 0))), (1, .long x1)]) dX6_said_1 rfl (Nat.le_of_ble_eq_true rfl) rfl ?_
  refine v_lload_n (q := 2) dX6_said_2 rfl rfl ?_
  refine v_callS q1753 q1754 q113 q1755 n_X6_lengthOf ⟨Nat.le_of_ble_eq_true rfl, Nat.le_of_ble_eq_true rfl⟩ [.long x1] [] (met_X6_lengthOf hw) rfl (Nat.zero_le _) ⟨Nat.le_refl _, Nat.le_refl _⟩ dX6_said_3 rfl (v_ki (fun z_26 h1 hv => ?_))
  clear hw
  obtain ⟨e9, hw⟩ := hv
  refine v_heap e9 ?_
  clear e9
  refine v_istore (lv1 := [(5, .int z_26), (3, .long (lN 0)), (0, va_rf (some (b 0))), (1, .long x1)]) dX6_said_6 (Nat.le_of_ble_eq_true rfl) rfl ?_
  refine v_iconst dX6_said_8 ic_0 ?_
  refine v_istore (lv1 := [(6, .int (nI 0)), (5, .int z_26), (3, .long (lN 0)), (0, va_rf (some (b 0))), (1, .long x1)]) dX6_said_9 (Nat.le_of_ble_eq_true rfl) rfl ?_
  obtain ⟨n_27, hw⟩ := hw
  refine v_sub [3, 4, 2, 1, 0] rfl ?_
  exact b_X6_said_11 hb n_27 (lN 0) z_26 (nI 0) hw
theorem met_X6_said {post : (Int64) → Prop}   {x1 : Int64} {mi : Nat → Int32} {ma : Nat → Nat → Int32} {ml : Nat → Nat → Int64} (hb : mOK b)  (hw : w_X6_said post  x1 mi ma ml) : Mt l E yX6_said (ws_ yX6_said cX6_said 10 (some .long)) r_X6_said [va_rf (some (b 0)), .long x1] (mH b mi ma ml) (vpl (fun (r : Int64) (h' : AH) => h' = (mH b mi ma ml) ∧ post r)) := v_entry (by decide +kernel) (Nat.le_of_ble_eq_true rfl) rfl (fun _ => e_X6_said hb hw)
/-! X6_told -/
abbrev r_X6_told : Room := { frames := 4, cells := 0, slots := 0, locals := 104 }
theorem n_X6_told : vdn yX6_told 4 := ⟨by decide +kernel, by decide +kernel, by decide +kernel⟩
def w_X6_told_54 (post : (Int32) → (Nat → Int32) → (Nat → Nat → Int32) → (Nat → Nat → Int64) → Prop) (x1 : Int32) (x2 : Int32) (x3 : Int32) (x4 : Int32) (mi : Nat → Int32) (ma : Nat → Nat → Int32) (ml : Nat → Nat → Int64) : Prop :=
 (w_X6_no (fun (z_1 : Int32) (ma_2 : Nat → Nat → Int32) => (post z_1 mi ma_2 ml)) (-3) mi ma ml)
def w_X6_told_181 (post : (Int32) → (Nat → Int32) → (Nat → Nat → Int32) → (Nat → Nat → Int64) → Prop) (k91 : (Int32) → (Int32) → (Nat → Int32) → (Nat → Nat → Int32) → (Nat → Nat → Int64) → Prop) (x1 : Int32) (x2 : Int32) (x3 : Int32) (x4 : Int32) (x5 : Int32) (x6 : Int32) (mi : Nat → Int32) (ma : Nat → Nat → Int32) (ml : Nat → Nat → Int64) : Prop :=
 (∀ z_3 : Int32, z_3 = x6 + (nI 1) → (k91 x5 z_3 mi ma ml))
def w_X6_told_177 (post : (Int32) → (Nat → Int32) → (Nat → Nat → Int32) → (Nat → Nat → Int64) → Prop) (k91 : (Int32) → (Int32) → (Nat → Int32) → (Nat → Nat → Int32) → (Nat → Nat → Int64) → Prop) (x1 : Int32) (x2 : Int32) (x3 : Int32) (x4 : Int32) (x5 : Int32) (x6 : Int32) (s0 : Int64) (s1 : Int32) (mi : Nat → Int32) (ma : Nat → Nat → Int32) (ml : Nat → Nat → Int64) : Prop :=
 (vp_in s1 12 ∧ ∀ ml_5 : Nat → Nat → Int64, ml_5 = mupL ml 26 (s1).toNatClampNeg s0 → (∀ z_6 : Int32, z_6 = x5 + (nI 1) → (w_X6_told_181 post k91 x1 x2 x3 x4 z_6 x6 mi ma ml_5)))
def w_X6_told_263 (post : (Int32) → (Nat → Int32) → (Nat → Nat → Int32) → (Nat → Nat → Int64) → Prop) (k202 : (Int32) → (Int32) → (Nat → Int32) → (Nat → Nat → Int32) → (Nat → Nat → Int64) → Prop) (x1 : Int32) (x2 : Int32) (x3 : Int32) (x4 : Int32) (x5 : Int32) (x6 : Int32) (mi : Nat → Int32) (ma : Nat → Nat → Int32) (ml : Nat → Nat → Int64) : Prop :=
 (∀ z_7 : Int32, z_7 = x6 + (nI 1) → (k202 x5 z_7 mi ma ml))
def w_X6_told_288 (post : (Int32) → (Nat → Int32) → (Nat → Nat → Int32) → (Nat → Nat → Int64) → Prop) (x1 : Int32) (x2 : Int32) (x3 : Int32) (x4 : Int32) : Nat → (Int32) → (Int32) → (Int32) → (Nat → Int32) → (Nat → Nat → Int32) → (Nat → Nat → Int64) → Prop
 | 0, _, _, _, _, _, _ => False
 | n0 + 1, x5, x6, x7, mi, ma, ml =>
 ((x5 ≤ x7 → (vp_in ((nI 121) + x6) 3372 ∧ ∀ ma_13 : Nat → Nat → Int32, ma_13 = mup ma 2 (((nI 121) + x6)).toNatClampNeg x5 → (post x6 mi ma_13 ml))) ∧ (¬ x5 ≤ x7 → (vp_in x7 12 ∧ (vp_in (((nI 12) * x6) + x7) 2352 ∧ ∀ ml_16 : Nat → Nat → Int64, ml_16 = mupL ml 3 ((((nI 12) * x6) + x7)).toNatClampNeg (ml 26 (x7).toNatClampNeg) → (∀ z_17 : Int32, z_17 = x7 + (nI 1) → (w_X6_told_288 post x1 x2 x3 x4 n0 x5 x6 z_17 mi ma ml_16))))))
def w_X6_told_202 (post : (Int32) → (Nat → Int32) → (Nat → Nat → Int32) → (Nat → Nat → Int64) → Prop) (x1 : Int32) (x2 : Int32) (x3 : Int32) (x4 : Int32) : Nat → (Int32) → (Int32) → (Nat → Int32) → (Nat → Nat → Int32) → (Nat → Nat → Int64) → Prop
 | 0, _, _, _, _, _ => False
 | n0 + 1, x5, x6, mi, ma, ml =>
 ((x5 ≤ (x6 + (nI 1)) → (vp_in ((nI 1) + x1) 3372 ∧ (w_X6_opens (fun (z_23 : Int32) (ma_24 : Nat → Nat → Int32) => (∃ n1 : Nat, (w_X6_told_288 post x1 x2 x3 x4 n1 x5 z_23 (nI 0) mi ma_24 ml))) (ma 2 (((nI 1) + x1)).toNatClampNeg) x2 x3 mi ma ml))) ∧ (¬ x5 ≤ (x6 + (nI 1)) → (w_X6_draw (fun (z_26 : Int32) (mi_27 : Nat → Int32) => (vp_in (nI 2) 116 ∧ ((z_26 < (ma 7 ((nI 2)).toNatClampNeg) → (vp_in x6 12 ∧ (∀ y_34 : Int64, y_34 = (ml 26 (x6).toNatClampNeg) → (vp_in (x6 + (nI 1)) 12 ∧ (vp_in x6 12 ∧ ∀ ml_37 : Nat → Nat → Int64, ml_37 = mupL ml 26 (x6).toNatClampNeg (ml 26 ((x6 + (nI 1))).toNatClampNeg) → (vp_in (x6 + (nI 1)) 12 ∧ ∀ ml_39 : Nat → Nat → Int64, ml_39 = mupL ml_37 26 ((x6 + (nI 1))).toNatClampNeg y_34 → (w_X6_told_263 post (fun (q0 : Int32) (q1 : Int32) (q2 : Nat → Int32) (q3 : Nat → Nat → Int32) (q4 : Nat → Nat → Int64) => w_X6_told_202 post x1 x2 x3 x4 n0 q0 q1 q2 q3 q4) x1 x2 x3 x4 x5 x6 mi_27 ma ml_39))))))) ∧ (¬ z_26 < (ma 7 ((nI 2)).toNatClampNeg) → (w_X6_told_263 post (fun (q0 : Int32) (q1 : Int32) (q2 : Nat → Int32) (q3 : Nat → Nat → Int32) (q4 : Nat → Nat → Int64) => w_X6_told_202 post x1 x2 x3 x4 n0 q0 q1 q2 q3 q4) x1 x2 x3 x4 x5 x6 mi_27 ma ml))))) mi ma ml)))
def w_X6_told_91 (post : (Int32) → (Nat → Int32) → (Nat → Nat → Int32) → (Nat → Nat → Int64) → Prop) (x1 : Int32) (x2 : Int32) (x3 : Int32) (x4 : Int32) : Nat → (Int32) → (Int32) → (Nat → Int32) → (Nat → Nat → Int32) → (Nat → Nat → Int64) → Prop
 | 0, _, _, _, _, _ => False
 | n0 + 1, x5, x6, mi, ma, ml =>
 (vp_in ((nI 121) + x1) 3372 ∧ (((ma 2 (((nI 121) + x1)).toNatClampNeg) ≤ x6 → ((¬ x5 = 0 → (∃ n1 : Nat, (w_X6_told_202 post x1 x2 x3 x4 n1 x5 (nI 0) mi ma ml))) ∧ (x5 = 0 → (w_X6_no (fun (z_50 : Int32) (ma_51 : Nat → Nat → Int32) => (post z_50 mi ma_51 ml)) (-5) mi ma ml)))) ∧ (¬ (ma 2 (((nI 121) + x1)).toNatClampNeg) ≤ x6 → (w_X6_draw (fun (z_52 : Int32) (mi_53 : Nat → Int32) => (vp_in (nI 1) 116 ∧ (((ma 7 ((nI 1)).toNatClampNeg) ≤ z_52 → (vp_in (((nI 12) * x1) + x6) 2352 ∧ (w_X6_said (fun (y_60 : Int64) => (w_X6_draw (fun (z_61 : Int32) (mi_62 : Nat → Int32) => (vp_in (nI 3) 116 ∧ (((ma 7 ((nI 3)).toNatClampNeg) ≤ z_61 → (w_X6_told_177 post (fun (q0 : Int32) (q1 : Int32) (q2 : Nat → Int32) (q3 : Nat → Nat → Int32) (q4 : Nat → Nat → Int64) => w_X6_told_91 post x1 x2 x3 x4 n0 q0 q1 q2 q3 q4) x1 x2 x3 x4 x5 x6 y_60 x5 mi_62 ma ml)) ∧ (¬ (ma 7 ((nI 3)).toNatClampNeg) ≤ z_61 → (vp_in ((nI 1) + x1) 3372 ∧ (w_X6_smooth (fun (y_69 : Int64) (mi_70 : Nat → Int32) (ma_71 : Nat → Nat → Int32) => (w_X6_told_177 post (fun (q0 : Int32) (q1 : Int32) (q2 : Nat → Int32) (q3 : Nat → Nat → Int32) (q4 : Nat → Nat → Int64) => w_X6_told_91 post x1 x2 x3 x4 n0 q0 q1 q2 q3 q4) x1 x2 x3 x4 x5 x6 y_69 x5 mi_70 ma_71 ml)) y_60 (ma 2 (((nI 1) + x1)).toNatClampNeg) mi_62 ma ml)))))) mi_53 ma ml)) (ml 3 ((((nI 12) * x1) + x6)).toNatClampNeg) mi_53 ma ml))) ∧ (¬ (ma 7 ((nI 1)).toNatClampNeg) ≤ z_52 → (w_X6_told_181 post (fun (q0 : Int32) (q1 : Int32) (q2 : Nat → Int32) (q3 : Nat → Nat → Int32) (q4 : Nat → Nat → Int64) => w_X6_told_91 post x1 x2 x3 x4 n0 q0 q1 q2 q3 q4) x1 x2 x3 x4 x5 x6 mi_53 ma ml))))) mi ma ml))))
def w_X6_told (post : (Int32) → (Nat → Int32) → (Nat → Nat → Int32) → (Nat → Nat → Int64) → Prop) (x1 : Int32) (x2 : Int32) (x3 : Int32) (x4 : Int32) (mi : Nat → Int32) (ma : Nat → Nat → Int32) (ml : Nat → Nat → Int64) : Prop :=
 (∀ mi_72 : Nat → Int32, mi_72 = upd mi 0 (nI 0) → (vp_in (nI 0) 3372 ∧ (w_X6_within (fun (z_74 : Int32) => ((¬ z_74 = 0 → (w_X6_within (fun (z_79 : Int32) => ((z_79 = 0 → (w_X6_told_54 post x1 x2 x3 x4 mi_72 ma ml)) ∧ (¬ z_79 = 0 → (w_X6_within (fun (z_84 : Int32) => ((¬ z_84 = 0 → (vp_in (nI 0) 3372 ∧ ((¬ (ma 2 ((nI 0)).toNatClampNeg) = (nI 40) → (∀ mi_94 : Nat → Int32, mi_94 = upd mi_72 25 x4 → (∃ n1 : Nat, (w_X6_told_91 post x1 x2 x3 x4 n1 (nI 0) (nI 0) mi_94 ma ml)))) ∧ ((ma 2 ((nI 0)).toNatClampNeg) = (nI 40) → (w_X6_no (fun (z_96 : Int32) (ma_97 : Nat → Nat → Int32) => (post z_96 mi_72 ma_97 ml)) (-4) mi_72 ma ml))))) ∧ (z_84 = 0 → (w_X6_told_54 post x1 x2 x3 x4 mi_72 ma ml)))) ((x3).toInt64) (lN 0) (lN 9999))))) ((x2).toInt64) (lN 0) (lN 15))) ∧ (z_74 = 0 → (w_X6_no (fun (z_98 : Int32) (ma_99 : Nat → Nat → Int32) => (post z_98 mi_72 ma_99 ml)) (-2) mi_72 ma ml)))) ((x1).toInt64) (lN 0) ((((ma 2 ((nI 0)).toNatClampNeg) - (nI 1))).toInt64))))
theorem b_X6_told_54 {post : (Int32) → (Nat → Int32) → (Nat → Nat → Int32) → (Nat → Nat → Int64) → Prop}   {x1 : Int32} {x2 : Int32} {x3 : Int32} {x4 : Int32}  (hb : mOK b)   (mi : Nat → Int32) (ma : Nat → Nat → Int32) (ml : Nat → Nat → Int64) (hw : w_X6_told_54 post x1 x2 x3 x4 mi ma ml) : VV l E X cX6_told RX6 "told" 9 r_X6_told (some .int) (vpi (fun (r : Int32) (h' : AH) => ∃ (mi' : Nat → Int32) (ma' : Nat → Nat → Int32) (ml' : Nat → Nat → Int64), h' = (mH b mi' ma' ml') ∧ post r mi' ma' ml')) (mH b mi ma ml) 0 0 54 [(0, va_rf (some (b 0))), (1, .int x1), (2, .int x2), (3, .int x3), (4, .int x4)] [] := by
  refine v_aload_n (q := 0) dX6_told_54 rfl rfl ?_
  refine v_bipush dX6_told_55 bp_m3 ?_
  refine v_callV q1737 q1739 qs53 q113 q1740 (ci := 7) rfl (mH_obj hb) n_X6_no ⟨Nat.le_of_ble_eq_true rfl, Nat.le_of_ble_eq_true rfl⟩ [.int (-3)] [] (met_X6_no hb hw) rfl (Nat.zero_le _) ⟨Nat.le_refl _, Nat.le_refl _⟩ dX6_told_57 rfl (v_ki (fun z_1 h1 hv => ?_))
  clear hw
  obtain ⟨ma_2, rfl, hw⟩ := hv
  exact v_iret dX6_told_60 rfl ⟨_, rfl, _, _, _, rfl, hw⟩
theorem b_X6_told_181 {post : (Int32) → (Nat → Int32) → (Nat → Nat → Int32) → (Nat → Nat → Int64) → Prop}   {x1 : Int32} {x2 : Int32} {x3 : Int32} {x4 : Int32} {k91 : (Int32) → (Int32) → (Nat → Int32) → (Nat → Nat → Int32) → (Nat → Nat → Int64) → Prop} (hb : mOK b)  (hk91 : ∀ (x5 : Int32) (x6 : Int32) (mi : Nat → Int32) (ma : Nat → Nat → Int32) (ml : Nat → Nat → Int64), k91 x5 x6 mi ma ml → VV l E X cX6_told RX6 "told" 9 r_X6_told (some .int) (vpi (fun (r : Int32) (h' : AH) => ∃ (mi' : Nat → Int32) (ma' : Nat → Nat → Int32) (ml' : Nat → Nat → Int64), h' = (mH b mi' ma' ml') ∧ post r mi' ma' ml')) (mH b mi ma ml) 0 0 91 [(0, va_rf (some (b 0))), (1, .int x1), (2, .int x2), (3, .int x3), (4, .int x4), (5, .int x5), (6, .int x6)] []) (x5 : Int32) (x6 : Int32) (mi : Nat → Int32) (ma : Nat → Nat → Int32) (ml : Nat → Nat → Int64) (hw : w_X6_told_181 post k91 x1 x2 x3 x4 x5 x6 mi ma ml) : VV l E X cX6_told RX6 "told" 9 r_X6_told (some .int) (vpi (fun (r : Int32) (h' : AH) => ∃ (mi' : Nat → Int32) (ma' : Nat → Nat → Int32) (ml' : Nat → Nat → Int64), h' = (mH b mi' ma' ml') ∧ post r mi' ma' ml')) (mH b mi ma ml) 0 0 181 [(0, va_rf (some (b 0))), (1, .int x1), (2, .int x2), (3, .int x3), (4, .int x4), (5, .int x5), (6, .int x6)] [] := by
  obtain ⟨z_3, e_3⟩ : ∃ z9 : Int32, z9 = x6 + (nI 1) := ⟨_, rfl⟩
  replace hw := hw z_3 e_3
  refine v_iinc (q := 6) (v := z_3) (lv1 := [(6, .int z_3), (0, va_rf (some (b 0))), (1, .int x1), (2, .int x2), (3, .int x3), (4, .int x4), (5, .int x5)]) dX6_told_181 rfl (by rw [e_3, ic_1]) (Nat.le_of_ble_eq_true rfl) rfl ?_
  refine v_goto (tgt := 91) dX6_told_184 (by decide) ?_
  refine v_sub [1, 2, 3, 4, 5, 6, 0] rfl ?_
  exact hk91 x5 z_3 mi ma ml hw
theorem b_X6_told_177 {post : (Int32) → (Nat → Int32) → (Nat → Nat → Int32) → (Nat → Nat → Int64) → Prop}   {x1 : Int32} {x2 : Int32} {x3 : Int32} {x4 : Int32} {k91 : (Int32) → (Int32) → (Nat → Int32) → (Nat → Nat → Int32) → (Nat → Nat → Int64) → Prop} (hb : mOK b)  (hk91 : ∀ (x5 : Int32) (x6 : Int32) (mi : Nat → Int32) (ma : Nat → Nat → Int32) (ml : Nat → Nat → Int64), k91 x5 x6 mi ma ml → VV l E X cX6_told RX6 "told" 9 r_X6_told (some .int) (vpi (fun (r : Int32) (h' : AH) => ∃ (mi' : Nat → Int32) (ma' : Nat → Nat → Int32) (ml' : Nat → Nat → Int64), h' = (mH b mi' ma' ml') ∧ post r mi' ma' ml')) (mH b mi ma ml) 0 0 91 [(0, va_rf (some (b 0))), (1, .int x1), (2, .int x2), (3, .int x3), (4, .int x4), (5, .int x5), (6, .int x6)] []) (x5 : Int32) (x6 : Int32) (s0 : Int64) (s1 : Int32) (mi : Nat → Int32) (ma : Nat → Nat → Int32) (ml : Nat → Nat → Int64) (hw : w_X6_told_177 post k91 x1 x2 x3 x4 x5 x6 s0 s1 mi ma ml) : VV l E X cX6_told RX6 "told" 9 r_X6_told (some .int) (vpi (fun (r : Int32) (h' : AH) => ∃ (mi' : Nat → Int32) (ma' : Nat → Nat → Int32) (ml' : Nat → Nat → Int64), h' = (mH b mi' ma' ml') ∧ post r mi' ma' ml')) (mH b mi ma ml) 0 0 177 [(0, va_rf (some (b 0))), (1, .int x1), (2, .int x2), (3, .int x3), (4, .int x4), (5, .int x5), (6, .int x6)] [.long s0, .int s1, va_rf (some (b 26))] := by
  obtain ⟨hi_4, hw⟩ := hw
  obtain ⟨ml_5, eml_5⟩ : ∃ z9 : Nat → Nat → Int64, z9 = mupL ml 26 (s1).toNatClampNeg s0 := ⟨_, rfl⟩
  replace hw := hw ml_5 eml_5
  refine v_last dX6_told_177 (mH_ar26 hb) hi_4 ?_
  refine v_heap (h' := mH b mi ma ml_5) (by rw [eml_5]; exact mH_st26 hb) ?_
  obtain ⟨z_6, e_6⟩ : ∃ z9 : Int32, z9 = x5 + (nI 1) := ⟨_, rfl⟩
  replace hw := hw z_6 e_6
  refine v_iinc (q := 5) (v := z_6) (lv1 := [(5, .int z_6), (0, va_rf (some (b 0))), (1, .int x1), (2, .int x2), (3, .int x3), (4, .int x4), (6, .int x6)]) dX6_told_178 rfl (by rw [e_6, ic_1]) (Nat.le_of_ble_eq_true rfl) rfl ?_
  refine v_sub [1, 2, 3, 4, 5, 0, 6] rfl ?_
  exact b_X6_told_181 hb hk91 z_6 x6 mi ma ml_5 hw
theorem b_X6_told_263 {post : (Int32) → (Nat → Int32) → (Nat → Nat → Int32) → (Nat → Nat → Int64) → Prop}   {x1 : Int32} {x2 : Int32} {x3 : Int32} {x4 : Int32} {k202 : (Int32) → (Int32) → (Nat → Int32) → (Nat → Nat → Int32) → (Nat → Nat → Int64) → Prop} (hb : mOK b)  (hk202 : ∀ (x5 : Int32) (x6 : Int32) (mi : Nat → Int32) (ma : Nat → Nat → Int32) (ml : Nat → Nat → Int64), k202 x5 x6 mi ma ml → VV l E X cX6_told RX6 "told" 9 r_X6_told (some .int) (vpi (fun (r : Int32) (h' : AH) => ∃ (mi' : Nat → Int32) (ma' : Nat → Nat → Int32) (ml' : Nat → Nat → Int64), h' = (mH b mi' ma' ml') ∧ post r mi' ma' ml')) (mH b mi ma ml) 0 0 202 [(0, va_rf (some (b 0))), (1, .int x1), (2, .int x2), (3, .int x3), (4, .int x4), (5, .int x5), (6, .int x6)] []) (x5 : Int32) (x6 : Int32) (mi : Nat → Int32) (ma : Nat → Nat → Int32) (ml : Nat → Nat → Int64) (hw : w_X6_told_263 post k202 x1 x2 x3 x4 x5 x6 mi ma ml) : VV l E X cX6_told RX6 "told" 9 r_X6_told (some .int) (vpi (fun (r : Int32) (h' : AH) => ∃ (mi' : Nat → Int32) (ma' : Nat → Nat → Int32) (ml' : Nat → Nat → Int64), h' = (mH b mi' ma' ml') ∧ post r mi' ma' ml')) (mH b mi ma ml) 0 0 263 [(0, va_rf (some (b 0))), (1, .int x1), (2, .int x2), (3, .int x3), (4, .int x4), (5, .int x5), (6, .int x6)] [] := by
  obtain ⟨z_7, e_7⟩ : ∃ z9 : Int32, z9 = x6 + (nI 1) := ⟨_, rfl⟩
  replace hw := hw z_7 e_7
  refine v_iinc (q := 6) (v := z_7) (lv1 := [(6, .int z_7), (0, va_rf (some (b 0))), (1, .int x1), (2, .int x2), (3, .int x3), (4, .int x4), (5, .int x5)]) dX6_told_263 rfl (by rw [e_7, ic_1]) (Nat.le_of_ble_eq_true rfl) rfl ?_
  refine v_goto (tgt := 202) dX6_told_266 (by decide) ?_
  refine v_sub [1, 2, 3, 4, 5, 6, 0] rfl ?_
  exact hk202 x5 z_7 mi ma ml hw
theorem b_X6_told_288 {post : (Int32) → (Nat → Int32) → (Nat → Nat → Int32) → (Nat → Nat → Int64) → Prop}   {x1 : Int32} {x2 : Int32} {x3 : Int32} {x4 : Int32}  (hb : mOK b)   : ∀ (n0 : Nat) (x5 : Int32) (x6 : Int32) (x7 : Int32) (mi : Nat → Int32) (ma : Nat → Nat → Int32) (ml : Nat → Nat → Int64), w_X6_told_288 post x1 x2 x3 x4 n0 x5 x6 x7 mi ma ml → VV l E X cX6_told RX6 "told" 9 r_X6_told (some .int) (vpi (fun (r : Int32) (h' : AH) => ∃ (mi' : Nat → Int32) (ma' : Nat → Nat → Int32) (ml' : Nat → Nat → Int64), h' = (mH b mi' ma' ml') ∧ post r mi' ma' ml')) (mH b mi ma ml) 0 0 288 [(0, va_rf (some (b 0))), (1, .int x1), (2, .int x2), (3, .int x3), (4, .int x4), (5, .int x5), (6, .int x6), (7, .int x7)] [] := by
  intro n0
  induction n0 with
  | zero =>
    intro x5 x6 x7 mi ma ml hw
    exact hw.elim
  | succ n0 ih =>
    intro x5 x6 x7 mi ma ml hw
    refine v_iload (q := 7) dX6_told_288 rfl ?_
    refine v_iload (q := 5) dX6_told_290 rfl ?_
    obtain ⟨hw_10, hw_11⟩ := hw
    refine v_icmp_ge (tgt := 321) dX6_told_292 (by decide) (fun c_8 => ?_) (fun c_9 => ?_)
    · have hw := hw_10 c_8
      refine v_aload_n (q := 0) dX6_told_321 rfl rfl ?_
      refine vm_get hb 2 (Nat.le_of_ble_eq_true rfl) q1616 rfl dX6_told_322 rfl ?_
      refine v_bipush dX6_told_325 bp_121 ?_
      refine v_iload (q := 6) dX6_told_327 rfl ?_
      refine v_iadd dX6_told_329 ?_
      refine v_iload (q := 5) dX6_told_330 rfl ?_
      obtain ⟨hi_12, hw⟩ := hw
      obtain ⟨ma_13, ema_13⟩ : ∃ z9 : Nat → Nat → Int32, z9 = mup ma 2 (((nI 121) + x6)).toNatClampNeg x5 := ⟨_, rfl⟩
      replace hw := hw ma_13 ema_13
      refine v_iast dX6_told_332 (mH_ar2 hb) hi_12 ?_
      refine v_heap (h' := mH b mi ma_13 ml) (by rw [ema_13]; exact mH_st2 hb) ?_
      refine v_iload (q := 6) dX6_told_333 rfl ?_
      exact v_iret dX6_told_335 rfl ⟨_, rfl, _, _, _, rfl, hw⟩
    · have hw := hw_11 c_9
      refine v_aload_n (q := 0) dX6_told_295 rfl rfl ?_
      refine vm_get hb 3 (Nat.le_of_ble_eq_true rfl) q1617 rfl dX6_told_296 rfl ?_
      refine v_bipush dX6_told_299 bp_12 ?_
      refine v_iload (q := 6) dX6_told_301 rfl ?_
      refine v_imul dX6_told_303 ?_
      refine v_iload (q := 7) dX6_told_304 rfl ?_
      refine v_iadd dX6_told_306 ?_
      refine v_aload_n (q := 0) dX6_told_307 rfl rfl ?_
      refine vm_get hb 26 (Nat.le_of_ble_eq_true rfl) q1640 rfl dX6_told_308 rfl ?_
      refine v_iload (q := 7) dX6_told_311 rfl ?_
      obtain ⟨hi_14, hw⟩ := hw
      refine v_lald dX6_told_313 (mH_ar26 hb) hi_14 ?_
      obtain ⟨hi_15, hw⟩ := hw
      obtain ⟨ml_16, eml_16⟩ : ∃ z9 : Nat → Nat → Int64, z9 = mupL ml 3 ((((nI 12) * x6) + x7)).toNatClampNeg (ml 26 (x7).toNatClampNeg) := ⟨_, rfl⟩
      replace hw := hw ml_16 eml_16
      refine v_last dX6_told_314 (mH_ar3 hb) hi_15 ?_
      refine v_heap (h' := mH b mi ma ml_16) (by rw [eml_16]; exact mH_st3 hb) ?_
      obtain ⟨z_17, e_17⟩ : ∃ z9 : Int32, z9 = x7 + (nI 1) := ⟨_, rfl⟩
      replace hw := hw z_17 e_17
      refine v_iinc (q := 7) (v := z_17) (lv1 := [(7, .int z_17), (0, va_rf (some (b 0))), (1, .int x1), (2, .int x2), (3, .int x3), (4, .int x4), (5, .int x5), (6, .int x6)]) dX6_told_315 rfl (by rw [e_17, ic_1]) (Nat.le_of_ble_eq_true rfl) rfl ?_
      refine v_goto (tgt := 288) dX6_told_318 (by decide) ?_
      refine v_sub [1, 2, 3, 4, 5, 6, 7, 0] rfl ?_
      exact ih x5 x6 z_17 mi ma ml_16 hw
theorem b_X6_told_202 {post : (Int32) → (Nat → Int32) → (Nat → Nat → Int32) → (Nat → Nat → Int64) → Prop}   {x1 : Int32} {x2 : Int32} {x3 : Int32} {x4 : Int32}  (hb : mOK b)   : ∀ (n0 : Nat) (x5 : Int32) (x6 : Int32) (mi : Nat → Int32) (ma : Nat → Nat → Int32) (ml : Nat → Nat → Int64), w_X6_told_202 post x1 x2 x3 x4 n0 x5 x6 mi ma ml → VV l E X cX6_told RX6 "told" 9 r_X6_told (some .int) (vpi (fun (r : Int32) (h' : AH) => ∃ (mi' : Nat → Int32) (ma' : Nat → Nat → Int32) (ml' : Nat → Nat → Int64), h' = (mH b mi' ma' ml') ∧ post r mi' ma' ml')) (mH b mi ma ml) 0 0 202 [(0, va_rf (some (b 0))), (1, .int x1), (2, .int x2), (3, .int x3), (4, .int x4), (5, .int x5), (6, .int x6)] [] := by
  intro n0
  induction n0 with
  | zero =>
    intro x5 x6 mi ma ml hw
    exact hw.elim
  | succ n0 ih =>
    intro x5 x6 mi ma ml hw
    refine v_iload (q := 6) dX6_told_202 rfl ?_
    refine v_iconst dX6_told_204 ic_1 ?_
    refine v_iadd dX6_told_205 ?_
    refine v_iload (q := 5) dX6_told_206 rfl ?_
    obtain ⟨hw_20, hw_21⟩ := hw
    refine v_icmp_ge (tgt := 269) dX6_told_208 (by decide) (fun c_18 => ?_) (fun c_19 => ?_)
    · have hw := hw_20 c_18
      refine v_aload_n (q := 0) dX6_told_269 rfl rfl ?_
      refine v_aload_n (q := 0) dX6_told_270 rfl rfl ?_
      refine vm_get hb 2 (Nat.le_of_ble_eq_true rfl) q1616 rfl dX6_told_271 rfl ?_
      refine v_iconst dX6_told_274 ic_1 ?_
      refine v_iload_n (q := 1) dX6_told_275 rfl rfl ?_
      refine v_iadd dX6_told_276 ?_
      obtain ⟨hi_22, hw⟩ := hw
      refine v_iald dX6_told_277 (mH_ar2 hb) hi_22 ?_
      refine v_iload_n (q := 2) dX6_told_278 rfl rfl ?_
      refine v_iload_n (q := 3) dX6_told_279 rfl rfl ?_
      refine v_callV q1745 q1747 qs54 q113 q1748 (ci := 7) rfl (mH_obj hb) n_X6_opens ⟨Nat.le_of_ble_eq_true rfl, Nat.le_of_ble_eq_true rfl⟩ [.int (ma 2 (((nI 1) + x1)).toNatClampNeg), .int x2, .int x3] [] (met_X6_opens hb hw) rfl (Nat.zero_le _) ⟨Nat.le_refl _, Nat.le_refl _⟩ dX6_told_280 rfl (v_ki (fun z_23 h1 hv => ?_))
      clear hw
      obtain ⟨ma_24, rfl, hw⟩ := hv
      refine v_istore (lv1 := [(6, .int z_23), (0, va_rf (some (b 0))), (1, .int x1), (2, .int x2), (3, .int x3), (4, .int x4), (5, .int x5)]) dX6_told_283 (Nat.le_of_ble_eq_true rfl) rfl ?_
      refine v_iconst dX6_told_285 ic_0 ?_
      refine v_istore (lv1 := [(7, .int (nI 0)), (6, .int z_23), (0, va_rf (some (b 0))), (1, .int x1), (2, .int x2), (3, .int x3), (4, .int x4), (5, .int x5)]) dX6_told_286 (Nat.le_of_ble_eq_true rfl) rfl ?_
      obtain ⟨n_25, hw⟩ := hw
      refine v_sub [2, 3, 4, 5, 6, 7, 1, 0] rfl ?_
      exact b_X6_told_288 hb n_25 x5 z_23 (nI 0) mi ma_24 ml hw
    · have hw := hw_21 c_19
      refine v_aload_n (q := 0) dX6_told_211 rfl rfl ?_
      refine v_callV q1898 q1900 qs77 q113 q1901 (ci := 7) rfl (mH_obj hb) n_X6_draw ⟨Nat.le_of_ble_eq_true rfl, Nat.le_of_ble_eq_true rfl⟩ [] [] (met_X6_draw hb hw) rfl (Nat.zero_le _) ⟨Nat.le_refl _, Nat.le_refl _⟩ dX6_told_212 rfl (v_ki (fun z_26 h1 hv => ?_))
      clear hw
      obtain ⟨mi_27, rfl, hw⟩ := hv
      refine v_aload_n (q := 0) dX6_told_215 rfl rfl ?_
      refine vm_get hb 7 (Nat.le_of_ble_eq_true rfl) q1621 rfl dX6_told_216 rfl ?_
      refine v_iconst dX6_told_219 ic_2 ?_
      obtain ⟨hi_28, hw⟩ := hw
      refine v_iald dX6_told_220 (mH_ar7 hb) hi_28 ?_
      obtain ⟨hw_31, hw_32⟩ := hw
      refine v_icmp_lt (tgt := 227) dX6_told_221 (by decide) (fun c_29 => ?_) (fun c_30 => ?_)
      · have hw := hw_31 c_29
        refine v_aload_n (q := 0) dX6_told_227 rfl rfl ?_
        refine vm_get hb 26 (Nat.le_of_ble_eq_true rfl) q1640 rfl dX6_told_228 rfl ?_
        refine v_iload (q := 6) dX6_told_231 rfl ?_
        obtain ⟨hi_33, hw⟩ := hw
        refine v_lald dX6_told_233 (mH_ar26 hb) hi_33 ?_
        refine v_topl (fun y_34 e_34 => ?_)
        replace hw := hw y_34 e_34
        refine v_lstore (lv1 := [(7, .long y_34), (0, va_rf (some (b 0))), (1, .int x1), (2, .int x2), (3, .int x3), (4, .int x4), (5, .int x5), (6, .int x6)]) dX6_told_234 (Nat.le_of_ble_eq_true rfl) rfl ?_
        refine v_aload_n (q := 1) dX6_told_236 rfl rfl ?_
        refine vm_get hb 26 (Nat.le_of_ble_eq_true rfl) q1640 rfl dX6_told_237 rfl ?_
        refine v_iload (q := 7) dX6_told_240 rfl ?_
        refine v_aload_n (q := 1) dX6_told_242 rfl rfl ?_
        refine vm_get hb 26 (Nat.le_of_ble_eq_true rfl) q1640 rfl dX6_told_243 rfl ?_
        refine v_iload (q := 7) dX6_told_246 rfl ?_
        refine v_iconst dX6_told_248 ic_1 ?_
        refine v_iadd dX6_told_249 ?_
        obtain ⟨hi_35, hw⟩ := hw
        refine v_lald dX6_told_250 (mH_ar26 hb) hi_35 ?_
        obtain ⟨hi_36, hw⟩ := hw
        obtain ⟨ml_37, eml_37⟩ : ∃ z9 : Nat → Nat → Int64, z9 = mupL ml 26 (x6).toNatClampNeg (ml 26 ((x6 + (nI 1))).toNatClampNeg) := ⟨_, rfl⟩
        replace hw := hw ml_37 eml_37
        refine v_last dX6_told_251 (mH_ar26 hb) hi_36 ?_
        refine v_heap (h' := mH b mi_27 ma ml_37) (by rw [eml_37]; exact mH_st26 hb) ?_
        refine v_aload_n (q := 1) dX6_told_252 rfl rfl ?_
        refine vm_get hb 26 (Nat.le_of_ble_eq_true rfl) q1640 rfl dX6_told_253 rfl ?_
        refine v_iload (q := 7) dX6_told_256 rfl ?_
        refine v_iconst dX6_told_258 ic_1 ?_
        refine v_iadd dX6_told_259 ?_
        refine v_lload (q := 0) dX6_told_260 rfl ?_
        obtain ⟨hi_38, hw⟩ := hw
        obtain ⟨ml_39, eml_39⟩ : ∃ z9 : Nat → Nat → Int64, z9 = mupL ml_37 26 ((x6 + (nI 1))).toNatClampNeg y_34 := ⟨_, rfl⟩
        replace hw := hw ml_39 eml_39
        refine v_last dX6_told_262 (mH_ar26 hb) hi_38 ?_
        refine v_heap (h' := mH b mi_27 ma ml_39) (by rw [eml_39]; exact mH_st26 hb) ?_
        refine v_sub [1, 2, 3, 4, 5, 6, 7] rfl ?_
        exact b_X6_told_263 hb (fun q0 q1 q2 q3 q4 z => ih q0 q1 q2 q3 q4 z) x5 x6 mi_27 ma ml_39 hw
      · have hw := hw_32 c_30
        refine v_goto (tgt := 263) dX6_told_224 (by decide) ?_
        refine v_sub [0, 1, 2, 3, 4, 5, 6] rfl ?_
        exact b_X6_told_263 hb (fun q0 q1 q2 q3 q4 z => ih q0 q1 q2 q3 q4 z) x5 x6 mi_27 ma ml hw
theorem b_X6_told_91 {post : (Int32) → (Nat → Int32) → (Nat → Nat → Int32) → (Nat → Nat → Int64) → Prop}   {x1 : Int32} {x2 : Int32} {x3 : Int32} {x4 : Int32}  (hb : mOK b)   : ∀ (n0 : Nat) (x5 : Int32) (x6 : Int32) (mi : Nat → Int32) (ma : Nat → Nat → Int32) (ml : Nat → Nat → Int64), w_X6_told_91 post x1 x2 x3 x4 n0 x5 x6 mi ma ml → VV l E X cX6_told RX6 "told" 9 r_X6_told (some .int) (vpi (fun (r : Int32) (h' : AH) => ∃ (mi' : Nat → Int32) (ma' : Nat → Nat → Int32) (ml' : Nat → Nat → Int64), h' = (mH b mi' ma' ml') ∧ post r mi' ma' ml')) (mH b mi ma ml) 0 0 91 [(0, va_rf (some (b 0))), (1, .int x1), (2, .int x2), (3, .int x3), (4, .int x4), (5, .int x5), (6, .int x6)] [] := by
  intro n0
  induction n0 with
  | zero =>
    intro x5 x6 mi ma ml hw
    exact hw.elim
  | succ n0 ih =>
    intro x5 x6 mi ma ml hw
    refine v_iload (q := 6) dX6_told_91 rfl ?_
    refine v_aload_n (q := 0) dX6_told_93 rfl rfl ?_
    refine vm_get hb 2 (Nat.le_of_ble_eq_true rfl) q1616 rfl dX6_told_94 rfl ?_
    refine v_bipush dX6_told_97 bp_121 ?_
    refine v_iload_n (q := 1) dX6_told_99 rfl rfl ?_
    refine v_iadd dX6_told_100 ?_
    obtain ⟨hi_40, hw⟩ := hw
    refine v_iald dX6_told_101 (mH_ar2 hb) hi_40 ?_
    obtain ⟨hw_43, hw_44⟩ := hw
    refine v_icmp_ge (tgt := 187) dX6_told_102 (by decide) (fun c_41 => ?_) (fun c_42 => ?_)
    · have hw := hw_43 c_41
      refine v_iload (q := 5) dX6_told_187 rfl ?_
      obtain ⟨hw_47, hw_48⟩ := hw
      refine v_if_ne (tgt := 199) dX6_told_189 (by decide) (fun c_45 => ?_) (fun c_46 => ?_)
      · have hw := hw_47 c_45
        refine v_iconst dX6_told_199 ic_0 ?_
        refine v_istore (lv1 := [(6, .int (nI 0)), (0, va_rf (some (b 0))), (1, .int x1), (2, .int x2), (3, .int x3), (4, .int x4), (5, .int x5)]) dX6_told_200 (Nat.le_of_ble_eq_true rfl) rfl ?_
        obtain ⟨n_49, hw⟩ := hw
        refine v_sub [1, 2, 3, 4, 5, 6, 0] rfl ?_
        exact b_X6_told_202 hb n_49 x5 (nI 0) mi ma ml hw
      · have hw := hw_48 c_46
        refine v_aload_n (q := 0) dX6_told_192 rfl rfl ?_
        refine v_bipush dX6_told_193 bp_m5 ?_
        refine v_callV q1737 q1739 qs53 q113 q1740 (ci := 7) rfl (mH_obj hb) n_X6_no ⟨Nat.le_of_ble_eq_true rfl, Nat.le_of_ble_eq_true rfl⟩ [.int (-5)] [] (met_X6_no hb hw) rfl (Nat.zero_le _) ⟨Nat.le_refl _, Nat.le_refl _⟩ dX6_told_195 rfl (v_ki (fun z_50 h1 hv => ?_))
        clear hw
        obtain ⟨ma_51, rfl, hw⟩ := hv
        exact v_iret dX6_told_198 rfl ⟨_, rfl, _, _, _, rfl, hw⟩
    · have hw := hw_44 c_42
      refine v_aload_n (q := 0) dX6_told_105 rfl rfl ?_
      refine v_callV q1898 q1900 qs77 q113 q1901 (ci := 7) rfl (mH_obj hb) n_X6_draw ⟨Nat.le_of_ble_eq_true rfl, Nat.le_of_ble_eq_true rfl⟩ [] [] (met_X6_draw hb hw) rfl (Nat.zero_le _) ⟨Nat.le_refl _, Nat.le_refl _⟩ dX6_told_106 rfl (v_ki (fun z_52 h1 hv => ?_))
      clear hw
      obtain ⟨mi_53, rfl, hw⟩ := hv
      refine v_aload_n (q := 0) dX6_told_109 rfl rfl ?_
      refine vm_get hb 7 (Nat.le_of_ble_eq_true rfl) q1621 rfl dX6_told_110 rfl ?_
      refine v_iconst dX6_told_113 ic_1 ?_
      obtain ⟨hi_54, hw⟩ := hw
      refine v_iald dX6_told_114 (mH_ar7 hb) hi_54 ?_
      obtain ⟨hw_57, hw_58⟩ := hw
      refine v_icmp_ge (tgt := 121) dX6_told_115 (by decide) (fun c_55 => ?_) (fun c_56 => ?_)
      · have hw := hw_57 c_55
        refine v_aload_n (q := 0) dX6_told_121 rfl rfl ?_
        refine v_aload_n (q := 0) dX6_told_122 rfl rfl ?_
        refine vm_get hb 3 (Nat.le_of_ble_eq_true rfl) q1617 rfl dX6_told_123 rfl ?_
        refine v_bipush dX6_told_126 bp_12 ?_
        refine v_iload_n (q := 1) dX6_told_128 rfl rfl ?_
        refine v_imul dX6_told_129 ?_
        refine v_iload (q := 6) dX6_told_130 rfl ?_
        refine v_iadd dX6_told_132 ?_
        obtain ⟨hi_59, hw⟩ := hw
        refine v_lald dX6_told_133 (mH_ar3 hb) hi_59 ?_
        refine v_callV q1903 q1905 qs78 q113 q1906 (ci := 7) rfl (mH_obj hb) n_X6_said ⟨Nat.le_of_ble_eq_true rfl, Nat.le_of_ble_eq_true rfl⟩ [.long (ml 3 ((((nI 12) * x1) + x6)).toNatClampNeg)] [] (met_X6_said hb hw) rfl (Nat.zero_le _) ⟨Nat.le_refl _, Nat.le_refl _⟩ dX6_told_134 rfl (v_kl (fun y_60 h1 hv => ?_))
        clear hw
        obtain ⟨e9, hw⟩ := hv
        refine v_heap e9 ?_
        clear e9
        refine v_lstore (lv1 := [(7, .long y_60), (0, va_rf (some (b 0))), (1, .int x1), (2, .int x2), (3, .int x3), (4, .int x4), (5, .int x5), (6, .int x6)]) dX6_told_137 (Nat.le_of_ble_eq_true rfl) rfl ?_
        refine v_aload_n (q := 1) dX6_told_139 rfl rfl ?_
        refine vm_get hb 26 (Nat.le_of_ble_eq_true rfl) q1640 rfl dX6_told_140 rfl ?_
        refine v_iload (q := 6) dX6_told_143 rfl ?_
        refine v_aload_n (q := 1) dX6_told_145 rfl rfl ?_
        refine v_callV q1898 q1900 qs77 q113 q1901 (ci := 7) rfl (mH_obj hb) n_X6_draw ⟨Nat.le_of_ble_eq_true rfl, Nat.le_of_ble_eq_true rfl⟩ [] [.int x5, va_rf (some (b 26))] (met_X6_draw hb hw) rfl (by simp only [List.map_cons, List.map_nil, List.sum_cons, List.sum_nil, v_rf1, v_cI, v_cJ]; decide) ⟨Nat.le_refl _, Nat.le_refl _⟩ dX6_told_146 rfl (v_ki (fun z_61 h1 hv => ?_))
        clear hw
        obtain ⟨mi_62, rfl, hw⟩ := hv
        refine v_aload_n (q := 1) dX6_told_149 rfl rfl ?_
        refine vm_get hb 7 (Nat.le_of_ble_eq_true rfl) q1621 rfl dX6_told_150 rfl ?_
        refine v_iconst dX6_told_153 ic_3 ?_
        obtain ⟨hi_63, hw⟩ := hw
        refine v_iald dX6_told_154 (mH_ar7 hb) hi_63 ?_
        obtain ⟨hw_66, hw_67⟩ := hw
        refine v_icmp_ge (tgt := 175) dX6_told_155 (by decide) (fun c_64 => ?_) (fun c_65 => ?_)
        · have hw := hw_66 c_64
          refine v_lload (q := 0) dX6_told_175 rfl ?_
          refine v_sub [1, 2, 3, 4, 5, 6, 7] rfl ?_
          exact b_X6_told_177 hb (fun q0 q1 q2 q3 q4 z => ih q0 q1 q2 q3 q4 z) x5 x6 y_60 x5 mi_62 ma ml hw
        · have hw := hw_67 c_65
          refine v_aload_n (q := 1) dX6_told_158 rfl rfl ?_
          refine v_lload (q := 0) dX6_told_159 rfl ?_
          refine v_aload_n (q := 1) dX6_told_161 rfl rfl ?_
          refine vm_get hb 2 (Nat.le_of_ble_eq_true rfl) q1616 rfl dX6_told_162 rfl ?_
          refine v_iconst dX6_told_165 ic_1 ?_
          refine v_iload_n (q := 2) dX6_told_166 rfl rfl ?_
          refine v_iadd dX6_told_167 ?_
          obtain ⟨hi_68, hw⟩ := hw
          refine v_iald dX6_told_168 (mH_ar2 hb) hi_68 ?_
          refine v_callV q1874 q1876 qs72 q113 q1877 (ci := 7) rfl (mH_obj hb) n_X6_smooth ⟨Nat.le_of_ble_eq_true rfl, Nat.le_of_ble_eq_true rfl⟩ [.long y_60, .int (ma 2 (((nI 1) + x1)).toNatClampNeg)] [.int x5, va_rf (some (b 26))] (met_X6_smooth hb hw) rfl (by simp only [List.map_cons, List.map_nil, List.sum_cons, List.sum_nil, v_rf1, v_cI, v_cJ]; decide) ⟨Nat.le_refl _, Nat.le_refl _⟩ dX6_told_169 rfl (v_kl (fun y_69 h1 hv => ?_))
          clear hw
          obtain ⟨mi_70, ma_71, rfl, hw⟩ := hv
          refine v_goto (tgt := 177) dX6_told_172 (by decide) ?_
          refine v_sub [1, 2, 3, 4, 5, 6, 7] rfl ?_
          exact b_X6_told_177 hb (fun q0 q1 q2 q3 q4 z => ih q0 q1 q2 q3 q4 z) x5 x6 y_69 x5 mi_70 ma_71 ml hw
      · have hw := hw_58 c_56
        refine v_goto (tgt := 181) dX6_told_118 (by decide) ?_
        refine v_sub [0, 1, 2, 3, 4, 5, 6] rfl ?_
        exact b_X6_told_181 hb (fun q0 q1 q2 q3 q4 z => ih q0 q1 q2 q3 q4 z) x5 x6 mi_53 ma ml hw
theorem e_X6_told {post : (Int32) → (Nat → Int32) → (Nat → Nat → Int32) → (Nat → Nat → Int64) → Prop}   {x1 : Int32} {x2 : Int32} {x3 : Int32} {x4 : Int32} {mi : Nat → Int32} {ma : Nat → Nat → Int32} {ml : Nat → Nat → Int64} (hb : mOK b)  (hw : w_X6_told post  x1 x2 x3 x4 mi ma ml) : VV l E X cX6_told RX6 "told" 9 r_X6_told (some .int) (vpi (fun (r : Int32) (h' : AH) => ∃ (mi' : Nat → Int32) (ma' : Nat → Nat → Int32) (ml' : Nat → Nat → Int64), h' = (mH b mi' ma' ml') ∧ post r mi' ma' ml')) (mH b mi ma ml) 0 0 0 [(0, va_rf (some (b 0))), (1, .int x1), (2, .int x2), (3, .int x3), (4, .int x4)] [] := by
  refine v_aload_n (q := 0) dX6_told_0 rfl rfl ?_
  refine v_iconst dX6_told_1 ic_0 ?_
  obtain ⟨mi_72, emi_72⟩ : ∃ z9 : Nat → Int32, z9 = upd mi 0 (nI 0) := ⟨_, rfl⟩
  replace hw := hw mi_72 emi_72
  refine vm_put hb 0 (Nat.le_of_ble_eq_true rfl) q1614 rfl rfl rfl dX6_told_2 emi_72 rfl ?_
  refine v_iload_n (q := 1) dX6_told_5 rfl rfl ?_
  refine v_i2l dX6_told_6 ?_
  refine v_lconst (v := lN 0) dX6_told_7 rfl ?_
  refine v_aload_n (q := 0) dX6_told_8 rfl rfl ?_
  refine vm_get hb 2 (Nat.le_of_ble_eq_true rfl) q1616 rfl dX6_told_9 rfl ?_
  refine v_iconst dX6_told_12 ic_0 ?_
  obtain ⟨hi_73, hw⟩ := hw
  refine v_iald dX6_told_13 (mH_ar2 hb) hi_73 ?_
  refine v_iconst dX6_told_14 ic_1 ?_
  refine v_isub dX6_told_15 ?_
  refine v_i2l dX6_told_16 ?_
  refine v_callS q1734 q1735 q113 q1736 n_X6_within ⟨Nat.le_of_ble_eq_true rfl, Nat.le_of_ble_eq_true rfl⟩ [.long ((x1).toInt64), .long (lN 0), .long ((((ma 2 ((nI 0)).toNatClampNeg) - (nI 1))).toInt64)] [] (met_X6_within hw) rfl (Nat.zero_le _) ⟨Nat.le_refl _, Nat.le_refl _⟩ dX6_told_17 rfl (v_ki (fun z_74 h1 hv => ?_))
  clear hw
  obtain ⟨e9, hw⟩ := hv
  refine v_heap e9 ?_
  clear e9
  obtain ⟨hw_77, hw_78⟩ := hw
  refine v_if_ne (tgt := 30) dX6_told_20 (by decide) (fun c_75 => ?_) (fun c_76 => ?_)
  · have hw := hw_77 c_75
    refine v_iload_n (q := 2) dX6_told_30 rfl rfl ?_
    refine v_i2l dX6_told_31 ?_
    refine v_lconst (v := lN 0) dX6_told_32 rfl ?_
    refine v_ldc2 (v := (lN 15)) dX6_told_33 q1742 ?_
    refine v_callS q1734 q1735 q113 q1736 n_X6_within ⟨Nat.le_of_ble_eq_true rfl, Nat.le_of_ble_eq_true rfl⟩ [.long ((x2).toInt64), .long (lN 0), .long (lN 15)] [] (met_X6_within hw) rfl (Nat.zero_le _) ⟨Nat.le_refl _, Nat.le_refl _⟩ dX6_told_36 rfl (v_ki (fun z_79 h1 hv => ?_))
    clear hw
    obtain ⟨e9, hw⟩ := hv
    refine v_heap e9 ?_
    clear e9
    obtain ⟨hw_82, hw_83⟩ := hw
    refine v_if_eq (tgt := 54) dX6_told_39 (by decide) (fun c_80 => ?_) (fun c_81 => ?_)
    · have hw := hw_82 c_80
      refine v_sub [0, 1, 2, 3, 4] rfl ?_
      exact b_X6_told_54 hb mi_72 ma ml hw
    · have hw := hw_83 c_81
      refine v_iload_n (q := 3) dX6_told_42 rfl rfl ?_
      refine v_i2l dX6_told_43 ?_
      refine v_lconst (v := lN 0) dX6_told_44 rfl ?_
      refine v_ldc2 (v := (lN 9999)) dX6_told_45 q1743 ?_
      refine v_callS q1734 q1735 q113 q1736 n_X6_within ⟨Nat.le_of_ble_eq_true rfl, Nat.le_of_ble_eq_true rfl⟩ [.long ((x3).toInt64), .long (lN 0), .long (lN 9999)] [] (met_X6_within hw) rfl (Nat.zero_le _) ⟨Nat.le_refl _, Nat.le_refl _⟩ dX6_told_48 rfl (v_ki (fun z_84 h1 hv => ?_))
      clear hw
      obtain ⟨e9, hw⟩ := hv
      refine v_heap e9 ?_
      clear e9
      obtain ⟨hw_87, hw_88⟩ := hw
      refine v_if_ne (tgt := 61) dX6_told_51 (by decide) (fun c_85 => ?_) (fun c_86 => ?_)
      · have hw := hw_87 c_85
        refine v_aload_n (q := 0) dX6_told_61 rfl rfl ?_
        refine vm_get hb 2 (Nat.le_of_ble_eq_true rfl) q1616 rfl dX6_told_62 rfl ?_
        refine v_iconst dX6_told_65 ic_0 ?_
        obtain ⟨hi_89, hw⟩ := hw
        refine v_iald dX6_told_66 (mH_ar2 hb) hi_89 ?_
        refine v_bipush dX6_told_67 bp_40 ?_
        obtain ⟨hw_92, hw_93⟩ := hw
        refine v_icmp_ne (tgt := 79) dX6_told_69 (by decide) (fun c_90 => ?_) (fun c_91 => ?_)
        · have hw := hw_92 c_90
          refine v_aload_n (q := 0) dX6_told_79 rfl rfl ?_
          refine v_iload (q := 4) dX6_told_80 rfl ?_
          obtain ⟨mi_94, emi_94⟩ : ∃ z9 : Nat → Int32, z9 = upd mi_72 25 x4 := ⟨_, rfl⟩
          replace hw := hw mi_94 emi_94
          refine vm_put hb 25 (Nat.le_of_ble_eq_true rfl) q1639 rfl rfl rfl dX6_told_82 emi_94 rfl ?_
          refine v_iconst dX6_told_85 ic_0 ?_
          refine v_istore (lv1 := [(5, .int (nI 0)), (0, va_rf (some (b 0))), (1, .int x1), (2, .int x2), (3, .int x3), (4, .int x4)]) dX6_told_86 (Nat.le_of_ble_eq_true rfl) rfl ?_
          refine v_iconst dX6_told_88 ic_0 ?_
          refine v_istore (lv1 := [(6, .int (nI 0)), (5, .int (nI 0)), (0, va_rf (some (b 0))), (1, .int x1), (2, .int x2), (3, .int x3), (4, .int x4)]) dX6_told_89 (Nat.le_of_ble_eq_true rfl) rfl ?_
          obtain ⟨n_95, hw⟩ := hw
          refine v_sub [2, 3, 4, 5, 6, 1, 0] rfl ?_
          exact b_X6_told_91 hb n_95 (nI 0) (nI 0) mi_94 ma ml hw
        · have hw := hw_93 c_91
          refine v_aload_n (q := 0) dX6_told_72 rfl rfl ?_
          refine v_bipush dX6_told_73 bp_m4 ?_
          refine v_callV q1737 q1739 qs53 q113 q1740 (ci := 7) rfl (mH_obj hb) n_X6_no ⟨Nat.le_of_ble_eq_true rfl, Nat.le_of_ble_eq_true rfl⟩ [.int (-4)] [] (met_X6_no hb hw) rfl (Nat.zero_le _) ⟨Nat.le_refl _, Nat.le_refl _⟩ dX6_told_75 rfl (v_ki (fun z_96 h1 hv => ?_))
          clear hw
          obtain ⟨ma_97, rfl, hw⟩ := hv
          exact v_iret dX6_told_78 rfl ⟨_, rfl, _, _, _, rfl, hw⟩
      · have hw := hw_88 c_86
        refine v_sub [0, 1, 2, 3, 4] rfl ?_
        exact b_X6_told_54 hb mi_72 ma ml hw
  · have hw := hw_78 c_76
    refine v_aload_n (q := 0) dX6_told_23 rfl rfl ?_
    refine v_bipush dX6_told_24 bp_m2 ?_
    refine v_callV q1737 q1739 qs53 q113 q1740 (ci := 7) rfl (mH_obj hb) n_X6_no ⟨Nat.le_of_ble_eq_true rfl, Nat.le_of_ble_eq_true rfl⟩ [.int (-2)] [] (met_X6_no hb hw) rfl (Nat.zero_le _) ⟨Nat.le_refl _, Nat.le_refl _⟩ dX6_told_26 rfl (v_ki (fun z_98 h1 hv => ?_))
    clear hw
    obtain ⟨ma_99, rfl, hw⟩ := hv
    exact v_iret dX6_told_29 rfl ⟨_, rfl, _, _, _, rfl, hw⟩
theorem met_X6_told {post : (Int32) → (Nat → Int32) → (Nat → Nat → Int32) → (Nat → Nat → Int64) → Prop}   {x1 : Int32} {x2 : Int32} {x3 : Int32} {x4 : Int32} {mi : Nat → Int32} {ma : Nat → Nat → Int32} {ml : Nat → Nat → Int64} (hb : mOK b)  (hw : w_X6_told post  x1 x2 x3 x4 mi ma ml) : Mt l E yX6_told (ws_ yX6_told cX6_told 9 (some .int)) r_X6_told [va_rf (some (b 0)), .int x1, .int x2, .int x3, .int x4] (mH b mi ma ml) (vpi (fun (r : Int32) (h' : AH) => ∃ (mi' : Nat → Int32) (ma' : Nat → Nat → Int32) (ml' : Nat → Nat → Int64), h' = (mH b mi' ma' ml') ∧ post r mi' ma' ml')) := v_entry (by decide +kernel) (Nat.le_of_ble_eq_true rfl) rfl (fun _ => e_X6_told hb hw)
/-! X6_isEarly -/
abbrev r_X6_isEarly : Room := { frames := 0, cells := 0, slots := 0, locals := 0 }
theorem n_X6_isEarly : vdn yX6_isEarly 1 := ⟨by decide +kernel, by decide +kernel, by decide +kernel⟩
def w_X6_isEarly (post : (Int32) → Prop) (x1 : Int32) (mi : Nat → Int32) (ma : Nat → Nat → Int32) (ml : Nat → Nat → Int64) : Prop :=
 (vp_in ((nI 81) + x1) 3372 ∧ (vp_in (nI 161) 3372 ∧ (((ma 2 ((nI 161)).toNatClampNeg) < (ma 2 (((nI 81) + x1)).toNatClampNeg) → (post (nI 0))) ∧ (¬ (ma 2 ((nI 161)).toNatClampNeg) < (ma 2 (((nI 81) + x1)).toNatClampNeg) → (post (nI 1))))))
theorem e_X6_isEarly {post : (Int32) → Prop}   {x1 : Int32} {mi : Nat → Int32} {ma : Nat → Nat → Int32} {ml : Nat → Nat → Int64} (hb : mOK b)  (hw : w_X6_isEarly post  x1 mi ma ml) : VV l E X cX6_isEarly RX6 "isEarly" 2 r_X6_isEarly (some .boolean) (vpi (fun (r : Int32) (h' : AH) => h' = (mH b mi ma ml) ∧ post r)) (mH b mi ma ml) 0 0 0 [(0, va_rf (some (b 0))), (1, .int x1)] [] := by
  refine v_aload_n (q := 0) dX6_isEarly_0 rfl rfl ?_
  refine vm_get hb 2 (Nat.le_of_ble_eq_true rfl) q1616 rfl dX6_isEarly_1 rfl ?_
  refine v_bipush dX6_isEarly_4 bp_81 ?_
  refine v_iload_n (q := 1) dX6_isEarly_6 rfl rfl ?_
  refine v_iadd dX6_isEarly_7 ?_
  obtain ⟨hi_1, hw⟩ := hw
  refine v_iald dX6_isEarly_8 (mH_ar2 hb) hi_1 ?_
  refine v_aload_n (q := 0) dX6_isEarly_9 rfl rfl ?_
  refine vm_get hb 2 (Nat.le_of_ble_eq_true rfl) q1616 rfl dX6_isEarly_10 rfl ?_
  refine v_sipush dX6_isEarly_13 sp_161 ?_
  obtain ⟨hi_2, hw⟩ := hw
  refine v_iald dX6_isEarly_16 (mH_ar2 hb) hi_2 ?_
  obtain ⟨hw_5, hw_6⟩ := hw
  refine v_icmp_gt (tgt := 24) dX6_isEarly_17 (by decide) (fun c_3 => ?_) (fun c_4 => ?_)
  · have hw := hw_5 c_3
    refine v_iconst dX6_isEarly_24 ic_0 ?_
    exact v_zret dX6_isEarly_25 rfl rfl ⟨_, rfl, rfl, hw⟩
  · have hw := hw_6 c_4
    refine v_iconst dX6_isEarly_20 ic_1 ?_
    refine v_goto (tgt := 25) dX6_isEarly_21 (by decide) ?_
    exact v_zret dX6_isEarly_25 rfl rfl ⟨_, rfl, rfl, hw⟩
theorem met_X6_isEarly {post : (Int32) → Prop}   {x1 : Int32} {mi : Nat → Int32} {ma : Nat → Nat → Int32} {ml : Nat → Nat → Int64} (hb : mOK b)  (hw : w_X6_isEarly post  x1 mi ma ml) : Mt l E yX6_isEarly (ws_ yX6_isEarly cX6_isEarly 2 (some .boolean)) r_X6_isEarly [va_rf (some (b 0)), .int x1] (mH b mi ma ml) (vpi (fun (r : Int32) (h' : AH) => h' = (mH b mi ma ml) ∧ post r)) := v_entry (by decide +kernel) (Nat.le_of_ble_eq_true rfl) rfl (fun _ => e_X6_isEarly hb hw)
/-! X6_smooths -/
abbrev r_X6_smooths : Room := { frames := 4, cells := 0, slots := 0, locals := 104 }
theorem n_X6_smooths : vdn yX6_smooths 0 := ⟨by decide +kernel, by decide +kernel, by decide +kernel⟩
def w_X6_smooths_75 (post : (Nat → Int32) → (Nat → Nat → Int32) → (Nat → Nat → Int64) → Prop) (k2 : (Int32) → (Nat → Int32) → (Nat → Nat → Int32) → (Nat → Nat → Int64) → Prop) (x1 : Int32) (mi : Nat → Int32) (ma : Nat → Nat → Int32) (ml : Nat → Nat → Int64) : Prop :=
 (∀ z_1 : Int32, z_1 = x1 + (nI 1) → (k2 z_1 mi ma ml))
def w_X6_smooths_14 (post : (Nat → Int32) → (Nat → Nat → Int32) → (Nat → Nat → Int64) → Prop) (k2 : (Int32) → (Nat → Int32) → (Nat → Nat → Int32) → (Nat → Nat → Int64) → Prop) : Nat → (Int32) → (Int32) → (Nat → Int32) → (Nat → Nat → Int32) → (Nat → Nat → Int64) → Prop
 | 0, _, _, _, _, _ => False
 | n0 + 1, x1, x2, mi, ma, ml =>
 (vp_in ((nI 121) + x1) 3372 ∧ (((ma 2 (((nI 121) + x1)).toNatClampNeg) ≤ x2 → (w_X6_smooths_75 post k2 x1 mi ma ml)) ∧ (¬ (ma 2 (((nI 121) + x1)).toNatClampNeg) ≤ x2 → (w_X6_isEarly (fun (z_7 : Int32) => ((z_7 = 0 → (w_X6_smooths_75 post k2 x1 mi ma ml)) ∧ (¬ z_7 = 0 → (vp_in (((nI 12) * x1) + x2) 2352 ∧ (vp_in ((nI 1) + x1) 3372 ∧ (w_X6_smooth (fun (y_14 : Int64) (mi_15 : Nat → Int32) (ma_16 : Nat → Nat → Int32) => (vp_in (((nI 12) * x1) + x2) 480 ∧ ∀ ml_18 : Nat → Nat → Int64, ml_18 = mupL ml 27 ((((nI 12) * x1) + x2)).toNatClampNeg y_14 → (∀ z_19 : Int32, z_19 = x2 + (nI 1) → (w_X6_smooths_14 post k2 n0 x1 z_19 mi_15 ma_16 ml_18)))) (ml 3 ((((nI 12) * x1) + x2)).toNatClampNeg) (ma 2 (((nI 1) + x1)).toNatClampNeg) mi ma ml)))))) x1 mi ma ml))))
def w_X6_smooths_2 (post : (Nat → Int32) → (Nat → Nat → Int32) → (Nat → Nat → Int64) → Prop) : Nat → (Int32) → (Nat → Int32) → (Nat → Nat → Int32) → (Nat → Nat → Int64) → Prop
 | 0, _, _, _, _ => False
 | n0 + 1, x1, mi, ma, ml =>
 (vp_in (nI 0) 3372 ∧ (((ma 2 ((nI 0)).toNatClampNeg) ≤ x1 → (post mi ma ml)) ∧ (¬ (ma 2 ((nI 0)).toNatClampNeg) ≤ x1 → (∃ n1 : Nat, (w_X6_smooths_14 post (fun (q0 : Int32) (q1 : Nat → Int32) (q2 : Nat → Nat → Int32) (q3 : Nat → Nat → Int64) => w_X6_smooths_2 post n0 q0 q1 q2 q3) n1 x1 (nI 0) mi ma ml)))))
def w_X6_smooths (post : (Nat → Int32) → (Nat → Nat → Int32) → (Nat → Nat → Int64) → Prop) (mi : Nat → Int32) (ma : Nat → Nat → Int32) (ml : Nat → Nat → Int64) : Prop :=
 (∃ n1 : Nat, (w_X6_smooths_2 post n1 (nI 0) mi ma ml))
theorem b_X6_smooths_75 {post : (Nat → Int32) → (Nat → Nat → Int32) → (Nat → Nat → Int64) → Prop}    {k2 : (Int32) → (Nat → Int32) → (Nat → Nat → Int32) → (Nat → Nat → Int64) → Prop} (hb : mOK b)  (hk2 : ∀ (x1 : Int32) (mi : Nat → Int32) (ma : Nat → Nat → Int32) (ml : Nat → Nat → Int64), k2 x1 mi ma ml → VV l E X cX6_smooths RX6 "smooths" 3 r_X6_smooths none (vpv (fun (h' : AH) => ∃ (mi' : Nat → Int32) (ma' : Nat → Nat → Int32) (ml' : Nat → Nat → Int64), h' = (mH b mi' ma' ml') ∧ post mi' ma' ml')) (mH b mi ma ml) 0 0 2 [(0, va_rf (some (b 0))), (1, .int x1)] []) (x1 : Int32) (mi : Nat → Int32) (ma : Nat → Nat → Int32) (ml : Nat → Nat → Int64) (hw : w_X6_smooths_75 post k2 x1 mi ma ml) : VV l E X cX6_smooths RX6 "smooths" 3 r_X6_smooths none (vpv (fun (h' : AH) => ∃ (mi' : Nat → Int32) (ma' : Nat → Nat → Int32) (ml' : Nat → Nat → Int64), h' = (mH b mi' ma' ml') ∧ post mi' ma' ml')) (mH b mi ma ml) 0 0 75 [(0, va_rf (some (b 0))), (1, .int x1)] [] := by
  obtain ⟨z_1, e_1⟩ : ∃ z9 : Int32, z9 = x1 + (nI 1) := ⟨_, rfl⟩
  replace hw := hw z_1 e_1
  refine v_iinc (q := 1) (v := z_1) (lv1 := [(1, .int z_1), (0, va_rf (some (b 0)))]) dX6_smooths_75 rfl (by rw [e_1, ic_1]) (Nat.le_of_ble_eq_true rfl) rfl ?_
  refine v_goto (tgt := 2) dX6_smooths_78 (by decide) ?_
  refine v_sub [1, 0] rfl ?_
  exact hk2 z_1 mi ma ml hw
theorem b_X6_smooths_14 {post : (Nat → Int32) → (Nat → Nat → Int32) → (Nat → Nat → Int64) → Prop}    {k2 : (Int32) → (Nat → Int32) → (Nat → Nat → Int32) → (Nat → Nat → Int64) → Prop} (hb : mOK b)  (hk2 : ∀ (x1 : Int32) (mi : Nat → Int32) (ma : Nat → Nat → Int32) (ml : Nat → Nat → Int64), k2 x1 mi ma ml → VV l E X cX6_smooths RX6 "smooths" 3 r_X6_smooths none (vpv (fun (h' : AH) => ∃ (mi' : Nat → Int32) (ma' : Nat → Nat → Int32) (ml' : Nat → Nat → Int64), h' = (mH b mi' ma' ml') ∧ post mi' ma' ml')) (mH b mi ma ml) 0 0 2 [(0, va_rf (some (b 0))), (1, .int x1)] []) : ∀ (n0 : Nat) (x1 : Int32) (x2 : Int32) (mi : Nat → Int32) (ma : Nat → Nat → Int32) (ml : Nat → Nat → Int64), w_X6_smooths_14 post k2 n0 x1 x2 mi ma ml → VV l E X cX6_smooths RX6 "smooths" 3 r_X6_smooths none (vpv (fun (h' : AH) => ∃ (mi' : Nat → Int32) (ma' : Nat → Nat → Int32) (ml' : Nat → Nat → Int64), h' = (mH b mi' ma' ml') ∧ post mi' ma' ml')) (mH b mi ma ml) 0 0 14 [(0, va_rf (some (b 0))), (1, .int x1), (2, .int x2)] [] := by
  intro n0
  induction n0 with
  | zero =>
    intro x1 x2 mi ma ml hw
    exact hw.elim
  | succ n0 ih =>
    intro x1 x2 mi ma ml hw
    refine v_iload_n (q := 2) dX6_smooths_14 rfl rfl ?_
    refine v_aload_n (q := 0) dX6_smooths_15 rfl rfl ?_
    refine vm_get hb 2 (Nat.le_of_ble_eq_true rfl) q1616 rfl dX6_smooths_16 rfl ?_
    refine v_bipush dX6_smooths_19 bp_121 ?_
    refine v_iload_n (q := 1) dX6_smooths_21 rfl rfl ?_
    refine v_iadd dX6_smooths_22 ?_
    obtain ⟨hi_2, hw⟩ := hw
    refine v_iald dX6_smooths_23 (mH_ar2 hb) hi_2 ?_
    obtain ⟨hw_5, hw_6⟩ := hw
    refine v_icmp_ge (tgt := 75) dX6_smooths_24 (by decide) (fun c_3 => ?_) (fun c_4 => ?_)
    · have hw := hw_5 c_3
      refine v_sub [0, 1] rfl ?_
      exact b_X6_smooths_75 hb hk2 x1 mi ma ml hw
    · have hw := hw_6 c_4
      refine v_aload_n (q := 0) dX6_smooths_27 rfl rfl ?_
      refine v_iload_n (q := 1) dX6_smooths_28 rfl rfl ?_
      refine v_callV q1915 q1917 qs80 q113 q1918 (ci := 7) rfl (mH_obj hb) n_X6_isEarly ⟨Nat.le_of_ble_eq_true rfl, Nat.le_of_ble_eq_true rfl⟩ [.int x1] [] (met_X6_isEarly hb hw) rfl (Nat.zero_le _) ⟨Nat.le_refl _, Nat.le_refl _⟩ dX6_smooths_29 rfl (v_ki (fun z_7 h1 hv => ?_))
      clear hw
      obtain ⟨e9, hw⟩ := hv
      refine v_heap e9 ?_
      clear e9
      obtain ⟨hw_10, hw_11⟩ := hw
      refine v_if_eq (tgt := 75) dX6_smooths_32 (by decide) (fun c_8 => ?_) (fun c_9 => ?_)
      · have hw := hw_10 c_8
        refine v_sub [0, 1] rfl ?_
        exact b_X6_smooths_75 hb hk2 x1 mi ma ml hw
      · have hw := hw_11 c_9
        refine v_aload_n (q := 0) dX6_smooths_35 rfl rfl ?_
        refine vm_get hb 27 (Nat.le_of_ble_eq_true rfl) q1641 rfl dX6_smooths_36 rfl ?_
        refine v_bipush dX6_smooths_39 bp_12 ?_
        refine v_iload_n (q := 1) dX6_smooths_41 rfl rfl ?_
        refine v_imul dX6_smooths_42 ?_
        refine v_iload_n (q := 2) dX6_smooths_43 rfl rfl ?_
        refine v_iadd dX6_smooths_44 ?_
        refine v_aload_n (q := 0) dX6_smooths_45 rfl rfl ?_
        refine v_aload_n (q := 0) dX6_smooths_46 rfl rfl ?_
        refine vm_get hb 3 (Nat.le_of_ble_eq_true rfl) q1617 rfl dX6_smooths_47 rfl ?_
        refine v_bipush dX6_smooths_50 bp_12 ?_
        refine v_iload_n (q := 1) dX6_smooths_52 rfl rfl ?_
        refine v_imul dX6_smooths_53 ?_
        refine v_iload_n (q := 2) dX6_smooths_54 rfl rfl ?_
        refine v_iadd dX6_smooths_55 ?_
        obtain ⟨hi_12, hw⟩ := hw
        refine v_lald dX6_smooths_56 (mH_ar3 hb) hi_12 ?_
        refine v_aload_n (q := 0) dX6_smooths_57 rfl rfl ?_
        refine vm_get hb 2 (Nat.le_of_ble_eq_true rfl) q1616 rfl dX6_smooths_58 rfl ?_
        refine v_iconst dX6_smooths_61 ic_1 ?_
        refine v_iload_n (q := 1) dX6_smooths_62 rfl rfl ?_
        refine v_iadd dX6_smooths_63 ?_
        obtain ⟨hi_13, hw⟩ := hw
        refine v_iald dX6_smooths_64 (mH_ar2 hb) hi_13 ?_
        refine v_callV q1874 q1876 qs72 q113 q1877 (ci := 7) rfl (mH_obj hb) n_X6_smooth ⟨Nat.le_of_ble_eq_true rfl, Nat.le_of_ble_eq_true rfl⟩ [.long (ml 3 ((((nI 12) * x1) + x2)).toNatClampNeg), .int (ma 2 (((nI 1) + x1)).toNatClampNeg)] [.int (((nI 12) * x1) + x2), va_rf (some (b 27))] (met_X6_smooth hb hw) rfl (by simp only [List.map_cons, List.map_nil, List.sum_cons, List.sum_nil, v_rf1, v_cI, v_cJ]; decide) ⟨Nat.le_refl _, Nat.le_refl _⟩ dX6_smooths_65 rfl (v_kl (fun y_14 h1 hv => ?_))
        clear hw
        obtain ⟨mi_15, ma_16, rfl, hw⟩ := hv
        obtain ⟨hi_17, hw⟩ := hw
        obtain ⟨ml_18, eml_18⟩ : ∃ z9 : Nat → Nat → Int64, z9 = mupL ml 27 ((((nI 12) * x1) + x2)).toNatClampNeg y_14 := ⟨_, rfl⟩
        replace hw := hw ml_18 eml_18
        refine v_last dX6_smooths_68 (mH_ar27 hb) hi_17 ?_
        refine v_heap (h' := mH b mi_15 ma_16 ml_18) (by rw [eml_18]; exact mH_st27 hb) ?_
        obtain ⟨z_19, e_19⟩ : ∃ z9 : Int32, z9 = x2 + (nI 1) := ⟨_, rfl⟩
        replace hw := hw z_19 e_19
        refine v_iinc (q := 2) (v := z_19) (lv1 := [(2, .int z_19), (0, va_rf (some (b 0))), (1, .int x1)]) dX6_smooths_69 rfl (by rw [e_19, ic_1]) (Nat.le_of_ble_eq_true rfl) rfl ?_
        refine v_goto (tgt := 14) dX6_smooths_72 (by decide) ?_
        refine v_sub [1, 2, 0] rfl ?_
        exact ih x1 z_19 mi_15 ma_16 ml_18 hw
theorem b_X6_smooths_2 {post : (Nat → Int32) → (Nat → Nat → Int32) → (Nat → Nat → Int64) → Prop}     (hb : mOK b)   : ∀ (n0 : Nat) (x1 : Int32) (mi : Nat → Int32) (ma : Nat → Nat → Int32) (ml : Nat → Nat → Int64), w_X6_smooths_2 post n0 x1 mi ma ml → VV l E X cX6_smooths RX6 "smooths" 3 r_X6_smooths none (vpv (fun (h' : AH) => ∃ (mi' : Nat → Int32) (ma' : Nat → Nat → Int32) (ml' : Nat → Nat → Int64), h' = (mH b mi' ma' ml') ∧ post mi' ma' ml')) (mH b mi ma ml) 0 0 2 [(0, va_rf (some (b 0))), (1, .int x1)] [] := by
  intro n0
  induction n0 with
  | zero =>
    intro x1 mi ma ml hw
    exact hw.elim
  | succ n0 ih =>
    intro x1 mi ma ml hw
    refine v_iload_n (q := 1) dX6_smooths_2 rfl rfl ?_
    refine v_aload_n (q := 0) dX6_smooths_3 rfl rfl ?_
    refine vm_get hb 2 (Nat.le_of_ble_eq_true rfl) q1616 rfl dX6_smooths_4 rfl ?_
    refine v_iconst dX6_smooths_7 ic_0 ?_
    obtain ⟨hi_20, hw⟩ := hw
    refine v_iald dX6_smooths_8 (mH_ar2 hb) hi_20 ?_
    obtain ⟨hw_23, hw_24⟩ := hw
    refine v_icmp_ge (tgt := 81) dX6_smooths_9 (by decide) (fun c_21 => ?_) (fun c_22 => ?_)
    · have hw := hw_23 c_21
      exact v_vret dX6_smooths_81 rfl ⟨rfl, _, _, _, rfl, hw⟩
    · have hw := hw_24 c_22
      refine v_iconst dX6_smooths_12 ic_0 ?_
      refine v_istore_n (lv1 := [(2, .int (nI 0)), (0, va_rf (some (b 0))), (1, .int x1)]) dX6_smooths_13 rfl (Nat.le_of_ble_eq_true rfl) rfl ?_
      obtain ⟨n_25, hw⟩ := hw
      refine v_sub [1, 2, 0] rfl ?_
      exact b_X6_smooths_14 hb (fun q0 q1 q2 q3 z => ih q0 q1 q2 q3 z) n_25 x1 (nI 0) mi ma ml hw
theorem e_X6_smooths {post : (Nat → Int32) → (Nat → Nat → Int32) → (Nat → Nat → Int64) → Prop}   {mi : Nat → Int32} {ma : Nat → Nat → Int32} {ml : Nat → Nat → Int64} (hb : mOK b)  (hw : w_X6_smooths post  mi ma ml) : VV l E X cX6_smooths RX6 "smooths" 3 r_X6_smooths none (vpv (fun (h' : AH) => ∃ (mi' : Nat → Int32) (ma' : Nat → Nat → Int32) (ml' : Nat → Nat → Int64), h' = (mH b mi' ma' ml') ∧ post mi' ma' ml')) (mH b mi ma ml) 0 0 0 [(0, va_rf (some (b 0)))] [] := by
  refine v_iconst dX6_smooths_0 ic_0 ?_
  refine v_istore_n (lv1 := [(1, .int (nI 0)), (0, va_rf (some (b 0)))]) dX6_smooths_1 rfl (Nat.le_of_ble_eq_true rfl) rfl ?_
  obtain ⟨n_26, hw⟩ := hw
  refine v_sub [1, 0] rfl ?_
  exact b_X6_smooths_2 hb n_26 (nI 0) mi ma ml hw
theorem met_X6_smooths {post : (Nat → Int32) → (Nat → Nat → Int32) → (Nat → Nat → Int64) → Prop}   {mi : Nat → Int32} {ma : Nat → Nat → Int32} {ml : Nat → Nat → Int64} (hb : mOK b)  (hw : w_X6_smooths post  mi ma ml) : Mt l E yX6_smooths (ws_ yX6_smooths cX6_smooths 3 none) r_X6_smooths [va_rf (some (b 0))] (mH b mi ma ml) (vpv (fun (h' : AH) => ∃ (mi' : Nat → Int32) (ma' : Nat → Nat → Int32) (ml' : Nat → Nat → Int64), h' = (mH b mi' ma' ml') ∧ post mi' ma' ml')) := v_entry (by decide +kernel) (Nat.le_of_ble_eq_true rfl) rfl (fun _ => e_X6_smooths hb hw)
/-! X6_looks -/
abbrev r_X6_looks : Room := { frames := 3, cells := 0, slots := 0, locals := 73 }
theorem n_X6_looks : vdn yX6_looks 3 := ⟨by decide +kernel, by decide +kernel, by decide +kernel⟩
def w_X6_looks (post : (Nat → Int32) → (Nat → Nat → Int32) → Prop) (x1 : Int64) (x3 : Int64) (x5 : Int32) (mi : Nat → Int32) (ma : Nat → Nat → Int32) (ml : Nat → Nat → Int64) : Prop :=
 (w_X6_likeOf (fun (z_1 : Int32) (ma_2 : Nat → Nat → Int32) => (((mi 28) < z_1 → (∀ mi_7 : Nat → Int32, mi_7 = upd mi 28 z_1 → (∀ mi_8 : Nat → Int32, mi_8 = upd mi_7 29 x5 → (post mi_8 ma_2)))) ∧ (¬ (mi 28) < z_1 → (post mi ma_2)))) x1 x3 mi ma ml)
theorem e_X6_looks {post : (Nat → Int32) → (Nat → Nat → Int32) → Prop}   {x1 : Int64} {x3 : Int64} {x5 : Int32} {mi : Nat → Int32} {ma : Nat → Nat → Int32} {ml : Nat → Nat → Int64} (hb : mOK b)  (hw : w_X6_looks post  x1 x3 x5 mi ma ml) : VV l E X cX6_looks RX6 "looks" 7 r_X6_looks none (vpv (fun (h' : AH) => ∃ (mi' : Nat → Int32) (ma' : Nat → Nat → Int32), h' = (mH b mi' ma' ml) ∧ post mi' ma')) (mH b mi ma ml) 0 0 0 [(0, va_rf (some (b 0))), (1, .long x1), (3, .long x3), (5, .int x5)] [] := by
  refine v_aload_n (q := 0) dX6_looks_0 rfl rfl ?_
  refine v_lload_n (q := 1) dX6_looks_1 rfl rfl ?_
  refine v_lload_n (q := 2) dX6_looks_2 rfl rfl ?_
  refine v_callV q1783 q1785 qs56 q113 q1786 (ci := 7) rfl (mH_obj hb) n_X6_likeOf ⟨Nat.le_of_ble_eq_true rfl, Nat.le_of_ble_eq_true rfl⟩ [.long x1, .long x3] [] (met_X6_likeOf hb hw) rfl (Nat.zero_le _) ⟨Nat.le_refl _, Nat.le_refl _⟩ dX6_looks_3 rfl (v_ki (fun z_1 h1 hv => ?_))
  clear hw
  obtain ⟨ma_2, rfl, hw⟩ := hv
  refine v_istore (lv1 := [(6, .int z_1), (0, va_rf (some (b 0))), (1, .long x1), (3, .long x3), (5, .int x5)]) dX6_looks_6 (Nat.le_of_ble_eq_true rfl) rfl ?_
  refine v_iload (q := 0) dX6_looks_8 rfl ?_
  refine v_aload_n (q := 1) dX6_looks_10 rfl rfl ?_
  refine vm_get hb 28 (Nat.le_of_ble_eq_true rfl) q1642 rfl dX6_looks_11 rfl ?_
  obtain ⟨hw_5, hw_6⟩ := hw
  refine v_icmp_gt (tgt := 18) dX6_looks_14 (by decide) (fun c_3 => ?_) (fun c_4 => ?_)
  · have hw := hw_5 c_3
    refine v_aload_n (q := 1) dX6_looks_18 rfl rfl ?_
    refine v_iload (q := 0) dX6_looks_19 rfl ?_
    obtain ⟨mi_7, emi_7⟩ : ∃ z9 : Nat → Int32, z9 = upd mi 28 z_1 := ⟨_, rfl⟩
    replace hw := hw mi_7 emi_7
    refine vm_put hb 28 (Nat.le_of_ble_eq_true rfl) q1642 rfl rfl rfl dX6_looks_21 emi_7 rfl ?_
    refine v_aload_n (q := 1) dX6_looks_24 rfl rfl ?_
    refine v_iload (q := 4) dX6_looks_25 rfl ?_
    obtain ⟨mi_8, emi_8⟩ : ∃ z9 : Nat → Int32, z9 = upd mi_7 29 x5 := ⟨_, rfl⟩
    replace hw := hw mi_8 emi_8
    refine vm_put hb 29 (Nat.le_of_ble_eq_true rfl) q1643 rfl rfl rfl dX6_looks_27 emi_8 rfl ?_
    exact v_vret dX6_looks_30 rfl ⟨rfl, _, _, rfl, hw⟩
  · have hw := hw_6 c_4
    exact v_vret dX6_looks_17 rfl ⟨rfl, _, _, rfl, hw⟩
theorem met_X6_looks {post : (Nat → Int32) → (Nat → Nat → Int32) → Prop}   {x1 : Int64} {x3 : Int64} {x5 : Int32} {mi : Nat → Int32} {ma : Nat → Nat → Int32} {ml : Nat → Nat → Int64} (hb : mOK b)  (hw : w_X6_looks post  x1 x3 x5 mi ma ml) : Mt l E yX6_looks (ws_ yX6_looks cX6_looks 7 none) r_X6_looks [va_rf (some (b 0)), .long x1, .long x3, .int x5] (mH b mi ma ml) (vpv (fun (h' : AH) => ∃ (mi' : Nat → Int32) (ma' : Nat → Nat → Int32), h' = (mH b mi' ma' ml) ∧ post mi' ma')) := v_entry (by decide +kernel) (Nat.le_of_ble_eq_true rfl) rfl (fun _ => e_X6_looks hb hw)
end WALK
