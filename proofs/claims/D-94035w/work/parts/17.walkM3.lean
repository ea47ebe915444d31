set_option maxRecDepth 100000
section WALK
variable {l : Launch} {E : VE} {X : VX} {b : Nat → Nat}
/-! X6_best -/
abbrev r_X6_best : Room := { frames := 4, cells := 0, slots := 0, locals := 99 }
theorem n_X6_best : vdn yX6_best 2 := ⟨by decide +kernel, by decide +kernel, by decide +kernel⟩
def w_X6_best_45 (post : (Nat → Int32) → (Nat → Nat → Int32) → Prop) (k29 : (Int64) → (Int32) → (Nat → Int32) → (Nat → Nat → Int32) → Prop) (x1 : Int32) (x2 : Int32) (ml : Nat → Nat → Int64) : Nat → (Int64) → (Int32) → (Int32) → (Nat → Int32) → (Nat → Nat → Int32) → Prop
 | 0, _, _, _, _, _ => False
 | n0 + 1, x3, x5, x6, mi, ma =>
 (vp_in ((nI 236) + x5) 3372 ∧ (((ma 2 (((nI 236) + x5)).toNatClampNeg) ≤ x6 → (∀ z_6 : Int32, z_6 = x5 + (nI 1) → (k29 x3 z_6 mi ma))) ∧ (¬ (ma 2 (((nI 236) + x5)).toNatClampNeg) ≤ x6 → (vp_in (((nI 540) + ((nI 12) * x5)) + x6) 2352 ∧ (w_X6_looks (fun (mi_8 : Nat → Int32) (ma_9 : Nat → Nat → Int32) => (∀ z_10 : Int32, z_10 = x6 + (nI 1) → (w_X6_best_45 post k29 x1 x2 ml n0 x3 x5 z_10 mi_8 ma_9))) x3 (ml 3 ((((nI 540) + ((nI 12) * x5)) + x6)).toNatClampNeg) (((nI 100) * x5) + x6) mi ma ml)))))
def w_X6_best_29 (post : (Nat → Int32) → (Nat → Nat → Int32) → Prop) (x1 : Int32) (x2 : Int32) (ml : Nat → Nat → Int64) : Nat → (Int64) → (Int32) → (Nat → Int32) → (Nat → Nat → Int32) → Prop
 | 0, _, _, _, _ => False
 | n0 + 1, x3, x5, mi, ma =>
 (vp_in (nI 223) 3372 ∧ (((ma 2 ((nI 223)).toNatClampNeg) ≤ x5 → (post mi ma)) ∧ (¬ (ma 2 ((nI 223)).toNatClampNeg) ≤ x5 → (∃ n1 : Nat, (w_X6_best_45 post (fun (q0 : Int64) (q1 : Int32) (q2 : Nat → Int32) (q3 : Nat → Nat → Int32) => w_X6_best_29 post x1 x2 ml n0 q0 q1 q2 q3) x1 x2 ml n1 x3 x5 (nI 0) mi ma)))))
def w_X6_best_232 (post : (Nat → Int32) → (Nat → Nat → Int32) → Prop) (k107 : (Int64) → (Int32) → (Nat → Int32) → (Nat → Nat → Int32) → Prop) (k181 : (Int64) → (Int32) → (Int32) → (Nat → Int32) → (Nat → Nat → Int32) → Prop) (x1 : Int32) (x2 : Int32) (ml : Nat → Nat → Int64) (x3 : Int64) (x5 : Int32) (x7 : Int32) (s0 : Int64) (s1 : Int64) (mi : Nat → Int32) (ma : Nat → Nat → Int32) : Prop :=
 (w_X6_looks (fun (mi_17 : Nat → Int32) (ma_18 : Nat → Nat → Int32) => (∀ z_19 : Int32, z_19 = x7 + (nI 1) → (k181 x3 x5 z_19 mi_17 ma_18))) s1 s0 (((nI 100) * x5) + x7) mi ma ml)
def w_X6_best_249 (post : (Nat → Int32) → (Nat → Nat → Int32) → Prop) (k107 : (Int64) → (Int32) → (Nat → Int32) → (Nat → Nat → Int32) → Prop) (x1 : Int32) (x2 : Int32) (ml : Nat → Nat → Int64) (x3 : Int64) (x5 : Int32) (mi : Nat → Int32) (ma : Nat → Nat → Int32) : Prop :=
 (∀ z_20 : Int32, z_20 = x5 + (nI 1) → (k107 x3 z_20 mi ma))
def w_X6_best_181 (post : (Nat → Int32) → (Nat → Nat → Int32) → Prop) (k107 : (Int64) → (Int32) → (Nat → Int32) → (Nat → Nat → Int32) → Prop) (x1 : Int32) (x2 : Int32) (ml : Nat → Nat → Int64) : Nat → (Int64) → (Int32) → (Int32) → (Nat → Int32) → (Nat → Nat → Int32) → Prop
 | 0, _, _, _, _, _ => False
 | n0 + 1, x3, x5, x7, mi, ma =>
 (vp_in ((nI 121) + x5) 3372 ∧ (((ma 2 (((nI 121) + x5)).toNatClampNeg) ≤ x7 → (w_X6_best_249 post k107 x1 x2 ml x3 x5 mi ma)) ∧ (¬ (ma 2 (((nI 121) + x5)).toNatClampNeg) ≤ x7 → ((¬ x2 = (nI 2) → (vp_in (((nI 12) * x5) + x7) 2352 ∧ (w_X6_best_232 post k107 (fun (q0 : Int64) (q1 : Int32) (q2 : Int32) (q3 : Nat → Int32) (q4 : Nat → Nat → Int32) => w_X6_best_181 post k107 x1 x2 ml n0 q0 q1 q2 q3 q4) x1 x2 ml x3 x5 x7 (ml 3 ((((nI 12) * x5) + x7)).toNatClampNeg) x3 mi ma))) ∧ (x2 = (nI 2) → (vp_in (((nI 12) * x5) + x7) 480 ∧ (w_X6_best_232 post k107 (fun (q0 : Int64) (q1 : Int32) (q2 : Int32) (q3 : Nat → Int32) (q4 : Nat → Nat → Int32) => w_X6_best_181 post k107 x1 x2 ml n0 q0 q1 q2 q3 q4) x1 x2 ml x3 x5 x7 (ml 27 ((((nI 12) * x5) + x7)).toNatClampNeg) x3 mi ma)))))))
def w_X6_best_178 (post : (Nat → Int32) → (Nat → Nat → Int32) → Prop) (k107 : (Int64) → (Int32) → (Nat → Int32) → (Nat → Nat → Int32) → Prop) (x1 : Int32) (x2 : Int32) (ml : Nat → Nat → Int64) (x3 : Int64) (x5 : Int32) (mi : Nat → Int32) (ma : Nat → Nat → Int32) : Prop :=
 (∃ n1 : Nat, (w_X6_best_181 post k107 x1 x2 ml n1 x3 x5 (nI 0) mi ma))
def w_X6_best_165 (post : (Nat → Int32) → (Nat → Nat → Int32) → Prop) (k107 : (Int64) → (Int32) → (Nat → Int32) → (Nat → Nat → Int32) → Prop) (x1 : Int32) (x2 : Int32) (ml : Nat → Nat → Int64) (x3 : Int64) (x5 : Int32) (x6 : Int32) (mi : Nat → Int32) (ma : Nat → Nat → Int32) : Prop :=
 ((¬ x2 = (nI 1) → (w_X6_best_178 post k107 x1 x2 ml x3 x5 mi ma)) ∧ (x2 = (nI 1) → ((x6 = 0 → (w_X6_best_178 post k107 x1 x2 ml x3 x5 mi ma)) ∧ (¬ x6 = 0 → (w_X6_best_249 post k107 x1 x2 ml x3 x5 mi ma)))))
def w_X6_best_145 (post : (Nat → Int32) → (Nat → Nat → Int32) → Prop) (k107 : (Int64) → (Int32) → (Nat → Int32) → (Nat → Nat → Int32) → Prop) (x1 : Int32) (x2 : Int32) (ml : Nat → Nat → Int64) (x3 : Int64) (x5 : Int32) (s0 : Int32) (mi : Nat → Int32) (ma : Nat → Nat → Int32) : Prop :=
 (w_X6_isEarly (fun (z_41 : Int32) => ((z_41 = 0 → (w_X6_best_249 post k107 x1 x2 ml x3 x5 mi ma)) ∧ (¬ z_41 = 0 → ((¬ x2 = 0 → (w_X6_best_165 post k107 x1 x2 ml x3 x5 s0 mi ma)) ∧ (x2 = 0 → ((s0 = 0 → (w_X6_best_249 post k107 x1 x2 ml x3 x5 mi ma)) ∧ (¬ s0 = 0 → (w_X6_best_165 post k107 x1 x2 ml x3 x5 s0 mi ma)))))))) x5 mi ma ml)
def w_X6_best_107 (post : (Nat → Int32) → (Nat → Nat → Int32) → Prop) (x1 : Int32) (x2 : Int32) (ml : Nat → Nat → Int64) : Nat → (Int64) → (Int32) → (Nat → Int32) → (Nat → Nat → Int32) → Prop
 | 0, _, _, _, _ => False
 | n0 + 1, x3, x5, mi, ma =>
 (vp_in (nI 0) 3372 ∧ (((ma 2 ((nI 0)).toNatClampNeg) ≤ x5 → (post mi ma)) ∧ (¬ (ma 2 ((nI 0)).toNatClampNeg) ≤ x5 → (vp_in ((nI 1) + x5) 3372 ∧ (vp_in ((nI 163) + x1) 3372 ∧ ((¬ (ma 2 (((nI 1) + x5)).toNatClampNeg) = (ma 2 (((nI 163) + x1)).toNatClampNeg) → (w_X6_best_145 post (fun (q0 : Int64) (q1 : Int32) (q2 : Nat → Int32) (q3 : Nat → Nat → Int32) => w_X6_best_107 post x1 x2 ml n0 q0 q1 q2 q3) x1 x2 ml x3 x5 (nI 0) mi ma)) ∧ ((ma 2 (((nI 1) + x5)).toNatClampNeg) = (ma 2 (((nI 163) + x1)).toNatClampNeg) → (w_X6_best_145 post (fun (q0 : Int64) (q1 : Int32) (q2 : Nat → Int32) (q3 : Nat → Nat → Int32) => w_X6_best_107 post x1 x2 ml n0 q0 q1 q2 q3) x1 x2 ml x3 x5 (nI 1) mi ma))))))))
def w_X6_best (post : (Nat → Int32) → (Nat → Nat → Int32) → Prop) (x1 : Int32) (x2 : Int32) (mi : Nat → Int32) (ma : Nat → Nat → Int32) (ml : Nat → Nat → Int64) : Prop :=
 (∀ mi_65 : Nat → Int32, mi_65 = upd mi 28 (-1) → (∀ mi_66 : Nat → Int32, mi_66 = upd mi_65 29 (-1) → (vp_in ((nI 480) + x1) 2352 ∧ (∀ y_68 : Int64, y_68 = (ml 3 (((nI 480) + x1)).toNatClampNeg) → ((¬ x2 = (nI 3) → (∃ n1 : Nat, (w_X6_best_107 post x1 x2 ml n1 y_68 (nI 0) mi_66 ma))) ∧ (x2 = (nI 3) → (∃ n1 : Nat, (w_X6_best_29 post x1 x2 ml n1 y_68 (nI 0) mi_66 ma))))))))
theorem b_X6_best_45 {post : (Nat → Int32) → (Nat → Nat → Int32) → Prop}   {x1 : Int32} {x2 : Int32} {ml : Nat → Nat → Int64} {k29 : (Int64) → (Int32) → (Nat → Int32) → (Nat → Nat → Int32) → Prop} (hb : mOK b)  (hk29 : ∀ (x3 : Int64) (x5 : Int32) (mi : Nat → Int32) (ma : Nat → Nat → Int32), k29 x3 x5 mi ma → VV l E X cX6_best RX6 "best" 8 r_X6_best none (vpv (fun (h' : AH) => ∃ (mi' : Nat → Int32) (ma' : Nat → Nat → Int32), h' = (mH b mi' ma' ml) ∧ post mi' ma')) (mH b mi ma ml) 0 0 29 [(0, va_rf (some (b 0))), (1, .int x1), (2, .int x2), (3, .long x3), (5, .int x5)] []) : ∀ (n0 : Nat) (x3 : Int64) (x5 : Int32) (x6 : Int32) (mi : Nat → Int32) (ma : Nat → Nat → Int32), w_X6_best_45 post k29 x1 x2 ml n0 x3 x5 x6 mi ma → VV l E X cX6_best RX6 "best" 8 r_X6_best none (vpv (fun (h' : AH) => ∃ (mi' : Nat → Int32) (ma' : Nat → Nat → Int32), h' = (mH b mi' ma' ml) ∧ post mi' ma')) (mH b mi ma ml) 0 0 45 [(0, va_rf (some (b 0))), (1, .int x1), (2, .int x2), (3, .long x3), (5, .int x5), (6, .int x6)] [] := by
  intro n0
  induction n0 with
  | zero =>
    intro x3 x5 x6 mi ma hw
    exact hw.elim
  | succ n0 ih =>
    intro x3 x5 x6 mi ma hw
    refine v_iload (q := 5) dX6_best_45 rfl ?_
    refine v_aload_n (q := 0) dX6_best_47 rfl rfl ?_
    refine vm_get hb 2 (Nat.le_of_ble_eq_true rfl) q1616 rfl dX6_best_48 rfl ?_
    refine v_sipush dX6_best_51 sp_236 ?_
    refine v_iload (q := 4) dX6_best_54 rfl ?_
    refine v_iadd dX6_best_56 ?_
    obtain ⟨hi_1, hw⟩ := hw
    refine v_iald dX6_best_57 (mH_ar2 hb) hi_1 ?_
    obtain ⟨hw_4, hw_5⟩ := hw
    refine v_icmp_ge (tgt := 97) dX6_best_58 (by decide) (fun c_2 => ?_) (fun c_3 => ?_)
    · have hw := hw_4 c_2
      obtain ⟨z_6, e_6⟩ : ∃ z9 : Int32, z9 = x5 + (nI 1) := ⟨_, rfl⟩
      replace hw := hw z_6 e_6
      refine v_iinc (q := 4) (v := z_6) (lv1 := [(5, .int z_6), (0, va_rf (some (b 0))), (1, .int x1), (2, .int x2), (3, .long x3), (6, .int x6)]) dX6_best_97 rfl (by rw [e_6, ic_1]) (Nat.le_of_ble_eq_true rfl) rfl ?_
      refine v_goto (tgt := 29) dX6_best_100 (by decide) ?_
      refine v_sub [1, 2, 3, 4, 0] rfl ?_
      exact hk29 x3 z_6 mi ma hw
    · have hw := hw_5 c_3
      refine v_aload_n (q := 0) dX6_best_61 rfl rfl ?_
      refine v_lload_n (q := 3) dX6_best_62 rfl rfl ?_
      refine v_aload_n (q := 0) dX6_best_63 rfl rfl ?_
      refine vm_get hb 3 (Nat.le_of_ble_eq_true rfl) q1617 rfl dX6_best_64 rfl ?_
      refine v_sipush dX6_best_67 sp_540 ?_
      refine v_bipush dX6_best_70 bp_12 ?_
      refine v_iload (q := 4) dX6_best_72 rfl ?_
      refine v_imul dX6_best_74 ?_
      refine v_iadd dX6_best_75 ?_
      refine v_iload (q := 5) dX6_best_76 rfl ?_
      refine v_iadd dX6_best_78 ?_
      obtain ⟨hi_7, hw⟩ := hw
      refine v_lald dX6_best_79 (mH_ar3 hb) hi_7 ?_
      refine v_bipush dX6_best_80 bp_100 ?_
      refine v_iload (q := 4) dX6_best_82 rfl ?_
      refine v_imul dX6_best_84 ?_
      refine v_iload (q := 5) dX6_best_85 rfl ?_
      refine v_iadd dX6_best_87 ?_
      refine v_callV q1927 q1929 qs83 q113 q1930 (ci := 7) rfl (mH_obj hb) n_X6_looks ⟨Nat.le_of_ble_eq_true rfl, Nat.le_of_ble_eq_true rfl⟩ [.long x3, .long (ml 3 ((((nI 540) + ((nI 12) * x5)) + x6)).toNatClampNeg), .int (((nI 100) * x5) + x6)] [] (met_X6_looks hb hw) rfl (Nat.zero_le _) ⟨Nat.le_refl _, Nat.le_refl _⟩ dX6_best_88 rfl (v_kv (fun h1 hv => ?_))
      clear hw
      obtain ⟨mi_8, ma_9, rfl, hw⟩ := hv
      obtain ⟨z_10, e_10⟩ : ∃ z9 : Int32, z9 = x6 + (nI 1) := ⟨_, rfl⟩
      replace hw := hw z_10 e_10
      refine v_iinc (q := 5) (v := z_10) (lv1 := [(6, .int z_10), (0, va_rf (some (b 0))), (1, .int x1), (2, .int x2), (3, .long x3), (5, .int x5)]) dX6_best_91 rfl (by rw [e_10, ic_1]) (Nat.le_of_ble_eq_true rfl) rfl ?_
      refine v_goto (tgt := 45) dX6_best_94 (by decide) ?_
      refine v_sub [1, 2, 3, 4, 5, 0] rfl ?_
      exact ih x3 x5 z_10 mi_8 ma_9 hw
theorem b_X6_best_29 {post : (Nat → Int32) → (Nat → Nat → Int32) → Prop}   {x1 : Int32} {x2 : Int32} {ml : Nat → Nat → Int64}  (hb : mOK b)   : ∀ (n0 : Nat) (x3 : Int64) (x5 : Int32) (mi : Nat → Int32) (ma : Nat → Nat → Int32), w_X6_best_29 post x1 x2 ml n0 x3 x5 mi ma → VV l E X cX6_best RX6 "best" 8 r_X6_best none (vpv (fun (h' : AH) => ∃ (mi' : Nat → Int32) (ma' : Nat → Nat → Int32), h' = (mH b mi' ma' ml) ∧ post mi' ma')) (mH b mi ma ml) 0 0 29 [(0, va_rf (some (b 0))), (1, .int x1), (2, .int x2), (3, .long x3), (5, .int x5)] [] := by
  intro n0
  induction n0 with
  | zero =>
    intro x3 x5 mi ma hw
    exact hw.elim
  | succ n0 ih =>
    intro x3 x5 mi ma hw
    refine v_iload (q := 4) dX6_best_29 rfl ?_
    refine v_aload_n (q := 0) dX6_best_31 rfl rfl ?_
    refine vm_get hb 2 (Nat.le_of_ble_eq_true rfl) q1616 rfl dX6_best_32 rfl ?_
    refine v_sipush dX6_best_35 sp_223 ?_
    obtain ⟨hi_11, hw⟩ := hw
    refine v_iald dX6_best_38 (mH_ar2 hb) hi_11 ?_
    obtain ⟨hw_14, hw_15⟩ := hw
    refine v_icmp_ge (tgt := 103) dX6_best_39 (by decide) (fun c_12 => ?_) (fun c_13 => ?_)
    · have hw := hw_14 c_12
      exact v_vret dX6_best_103 rfl ⟨rfl, _, _, rfl, hw⟩
    · have hw := hw_15 c_13
      refine v_iconst dX6_best_42 ic_0 ?_
      refine v_istore (lv1 := [(6, .int (nI 0)), (0, va_rf (some (b 0))), (1, .int x1), (2, .int x2), (3, .long x3), (5, .int x5)]) dX6_best_43 (Nat.le_of_ble_eq_true rfl) rfl ?_
      obtain ⟨n_16, hw⟩ := hw
      refine v_sub [1, 2, 3, 4, 5, 0] rfl ?_
      exact b_X6_best_45 hb (fun q0 q1 q2 q3 z => ih q0 q1 q2 q3 z) n_16 x3 x5 (nI 0) mi ma hw
theorem b_X6_best_232 {post : (Nat → Int32) → (Nat → Nat → Int32) → Prop}   {x1 : Int32} {x2 : Int32} {ml : Nat → Nat → Int64} {k107 : (Int64) → (Int32) → (Nat → Int32) → (Nat → Nat → Int32) → Prop} {k181 : (Int64) → (Int32) → (Int32) → (Nat → Int32) → (Nat → Nat → Int32) → Prop} (hb : mOK b)  (hk107 : ∀ (x3 : Int64) (x5 : Int32) (mi : Nat → Int32) (ma : Nat → Nat → Int32), k107 x3 x5 mi ma → VV l E X cX6_best RX6 "best" 8 r_X6_best none (vpv (fun (h' : AH) => ∃ (mi' : Nat → Int32) (ma' : Nat → Nat → Int32), h' = (mH b mi' ma' ml) ∧ post mi' ma')) (mH b mi ma ml) 0 0 107 [(0, va_rf (some (b 0))), (1, .int x1), (2, .int x2), (3, .long x3), (5, .int x5)] []) (hk181 : ∀ (x3 : Int64) (x5 : Int32) (x7 : Int32) (mi : Nat → Int32) (ma : Nat → Nat → Int32), k181 x3 x5 x7 mi ma → VV l E X cX6_best RX6 "best" 8 r_X6_best none (vpv (fun (h' : AH) => ∃ (mi' : Nat → Int32) (ma' : Nat → Nat → Int32), h' = (mH b mi' ma' ml) ∧ post mi' ma')) (mH b mi ma ml) 0 0 181 [(0, va_rf (some (b 0))), (1, .int x1), (2, .int x2), (3, .long x3), (5, .int x5), (7, .int x7)] []) (x3 : Int64) (x5 : Int32) (x7 : Int32) (s0 : Int64) (s1 : Int64) (mi : Nat → Int32) (ma : Nat → Nat → Int32) (hw : w_X6_best_232 post k107 k181 x1 x2 ml x3 x5 x7 s0 s1 mi ma) : VV l E X cX6_best RX6 "best" 8 r_X6_best none (vpv (fun (h' : AH) => ∃ (mi' : Nat → Int32) (ma' : Nat → Nat → Int32), h' = (mH b mi' ma' ml) ∧ post mi' ma')) (mH b mi ma ml) 0 0 232 [(0, va_rf (some (b 0))), (1, .int x1), (2, .int x2), (3, .long x3), (5, .int x5), (7, .int x7)] [.long s0, .long s1, va_rf (some (b 0))] := by
  refine v_bipush dX6_best_232 bp_100 ?_
  refine v_iload (q := 4) dX6_best_234 rfl ?_
  refine v_imul dX6_best_236 ?_
  refine v_iload (q := 5) dX6_best_237 rfl ?_
  refine v_iadd dX6_best_239 ?_
  refine v_callV q1927 q1929 qs83 q113 q1930 (ci := 7) rfl (mH_obj hb) n_X6_looks ⟨Nat.le_of_ble_eq_true rfl, Nat.le_of_ble_eq_true rfl⟩ [.long s1, .long s0, .int (((nI 100) * x5) + x7)] [] (met_X6_looks hb hw) rfl (Nat.zero_le _) ⟨Nat.le_refl _, Nat.le_refl _⟩ dX6_best_240 rfl (v_kv (fun h1 hv => ?_))
  clear hw
  obtain ⟨mi_17, ma_18, rfl, hw⟩ := hv
  obtain ⟨z_19, e_19⟩ : ∃ z9 : Int32, z9 = x7 + (nI 1) := ⟨_, rfl⟩
  replace hw := hw z_19 e_19
  refine v_iinc (q := 5) (v := z_19) (lv1 := [(7, .int z_19), (0, va_rf (some (b 0))), (1, .int x1), (2, .int x2), (3, .long x3), (5, .int x5)]) dX6_best_243 rfl (by rw [e_19, ic_1]) (Nat.le_of_ble_eq_true rfl) rfl ?_
  refine v_goto (tgt := 181) dX6_best_246 (by decide) ?_
  refine v_sub [1, 2, 3, 4, 5, 0] rfl ?_
  exact hk181 x3 x5 z_19 mi_17 ma_18 hw
theorem b_X6_best_249 {post : (Nat → Int32) → (Nat → Nat → Int32) → Prop}   {x1 : Int32} {x2 : Int32} {ml : Nat → Nat → Int64} {k107 : (Int64) → (Int32) → (Nat → Int32) → (Nat → Nat → Int32) → Prop} (hb : mOK b)  (hk107 : ∀ (x3 : Int64) (x5 : Int32) (mi : Nat → Int32) (ma : Nat → Nat → Int32), k107 x3 x5 mi ma → VV l E X cX6_best RX6 "best" 8 r_X6_best none (vpv (fun (h' : AH) => ∃ (mi' : Nat → Int32) (ma' : Nat → Nat → Int32), h' = (mH b mi' ma' ml) ∧ post mi' ma')) (mH b mi ma ml) 0 0 107 [(0, va_rf (some (b 0))), (1, .int x1), (2, .int x2), (3, .long x3), (5, .int x5)] []) (x3 : Int64) (x5 : Int32) (mi : Nat → Int32) (ma : Nat → Nat → Int32) (hw : w_X6_best_249 post k107 x1 x2 ml x3 x5 mi ma) : VV l E X cX6_best RX6 "best" 8 r_X6_best none (vpv (fun (h' : AH) => ∃ (mi' : Nat → Int32) (ma' : Nat → Nat → Int32), h' = (mH b mi' ma' ml) ∧ post mi' ma')) (mH b mi ma ml) 0 0 249 [(0, va_rf (some (b 0))), (1, .int x1), (2, .int x2), (3, .long x3), (5, .int x5)] [] := by
  obtain ⟨z_20, e_20⟩ : ∃ z9 : Int32, z9 = x5 + (nI 1) := ⟨_, rfl⟩
  replace hw := hw z_20 e_20
  refine v_iinc (q := 4) (v := z_20) (lv1 := [(5, .int z_20), (0, va_rf (some (b 0))), (1, .int x1), (2, .int x2), (3, .long x3)]) dX6_best_249 rfl (by rw [e_20, ic_1]) (Nat.le_of_ble_eq_true rfl) rfl ?_
  refine v_goto (tgt := 107) dX6_best_252 (by decide) ?_
  refine v_sub [1, 2, 3, 4, 0] rfl ?_
  exact hk107 x3 z_20 mi ma hw
theorem b_X6_best_181 {post : (Nat → Int32) → (Nat → Nat → Int32) → Prop}   {x1 : Int32} {x2 : Int32} {ml : Nat → Nat → Int64} {k107 : (Int64) → (Int32) → (Nat → Int32) → (Nat → Nat → Int32) → Prop} (hb : mOK b)  (hk107 : ∀ (x3 : Int64) (x5 : Int32) (mi : Nat → Int32) (ma : Nat → Nat → Int32), k107 x3 x5 mi ma → VV l E X cX6_best RX6 "best" 8 r_X6_best none (vpv (fun (h' : AH) => ∃ (mi' : Nat → Int32) (ma' : Nat → Nat → Int32), h' = (mH b mi' ma' ml) ∧ post mi' ma')) (mH b mi ma ml) 0 0 107 [(0, va_rf (some (b 0))), (1, .int x1), (2, .int x2), (3, .long x3), (5, .int x5)] []) : ∀ (n0 : Nat) (x3 : Int64) (x5 : Int32) (x7 : Int32) (mi : Nat → Int32) (ma : Nat → Nat → Int32), w_X6_best_181 post k107 x1 x2 ml n0 x3 x5 x7 mi ma → VV l E X cX6_best RX6 "best" 8 r_X6_best none (vpv (fun (h' : AH) => ∃ (mi' : Nat → Int32) (ma' : Nat → Nat → Int32), h' = (mH b mi' ma' ml) ∧ post mi' ma')) (mH b mi ma ml) 0 0 181 [(0, va_rf (some (b 0))), (1, .int x1), (2, .int x2), (3, .long x3), (5, .int x5), (7, .int x7)] [] := by
  intro n0
  induction n0 with
  | zero =>
    intro x3 x5 x7 mi ma hw
    exact hw.elim
  | succ n0 ih =>
    intro x3 x5 x7 mi ma hw
    refine v_iload (q := 5) dX6_best_181 rfl ?_
    refine v_aload_n (q := 0) dX6_best_183 rfl rfl ?_
    refine vm_get hb 2 (Nat.le_of_ble_eq_true rfl) q1616 rfl dX6_best_184 rfl ?_
    refine v_bipush dX6_best_187 bp_121 ?_
    refine v_iload (q := 4) dX6_best_189 rfl ?_
    refine v_iadd dX6_best_191 ?_
    obtain ⟨hi_21, hw⟩ := hw
    refine v_iald dX6_best_192 (mH_ar2 hb) hi_21 ?_
    obtain ⟨hw_24, hw_25⟩ := hw
    refine v_icmp_ge (tgt := 249) dX6_best_193 (by decide) (fun c_22 => ?_) (fun c_23 => ?_)
    · have hw := hw_24 c_22
      refine v_sub [0, 1, 2, 3, 4] rfl ?_
      exact b_X6_best_249 hb hk107 x3 x5 mi ma hw
    · have hw := hw_25 c_23
      refine v_aload_n (q := 0) dX6_best_196 rfl rfl ?_
      refine v_lload_n (q := 3) dX6_best_197 rfl rfl ?_
      refine v_iload_n (q := 2) dX6_best_198 rfl rfl ?_
      refine v_iconst dX6_best_199 ic_2 ?_
      obtain ⟨hw_28, hw_29⟩ := hw
      refine v_icmp_ne (tgt := 219) dX6_best_200 (by decide) (fun c_26 => ?_) (fun c_27 => ?_)
      · have hw := hw_28 c_26
        refine v_aload_n (q := 0) dX6_best_219 rfl rfl ?_
        refine vm_get hb 3 (Nat.le_of_ble_eq_true rfl) q1617 rfl dX6_best_220 rfl ?_
        refine v_bipush dX6_best_223 bp_12 ?_
        refine v_iload (q := 4) dX6_best_225 rfl ?_
        refine v_imul dX6_best_227 ?_
        refine v_iload (q := 5) dX6_best_228 rfl ?_
        refine v_iadd dX6_best_230 ?_
        obtain ⟨hi_30, hw⟩ := hw
        refine v_lald dX6_best_231 (mH_ar3 hb) hi_30 ?_
        refine v_sub [0, 1, 2, 3, 4, 5] rfl ?_
        exact b_X6_best_232 hb hk107 (fun q0 q1 q2 q3 q4 z => ih q0 q1 q2 q3 q4 z) x3 x5 x7 (ml 3 ((((nI 12) * x5) + x7)).toNatClampNeg) x3 mi ma hw
      · have hw := hw_29 c_27
        refine v_aload_n (q := 0) dX6_best_203 rfl rfl ?_
        refine vm_get hb 27 (Nat.le_of_ble_eq_true rfl) q1641 rfl dX6_best_204 rfl ?_
        refine v_bipush dX6_best_207 bp_12 ?_
        refine v_iload (q := 4) dX6_best_209 rfl ?_
        refine v_imul dX6_best_211 ?_
        refine v_iload (q := 5) dX6_best_212 rfl ?_
        refine v_iadd dX6_best_214 ?_
        obtain ⟨hi_31, hw⟩ := hw
        refine v_lald dX6_best_215 (mH_ar27 hb) hi_31 ?_
        refine v_goto (tgt := 232) dX6_best_216 (by decide) ?_
        refine v_sub [0, 1, 2, 3, 4, 5] rfl ?_
        exact b_X6_best_232 hb hk107 (fun q0 q1 q2 q3 q4 z => ih q0 q1 q2 q3 q4 z) x3 x5 x7 (ml 27 ((((nI 12) * x5) + x7)).toNatClampNeg) x3 mi ma hw
theorem b_X6_best_178 {post : (Nat → Int32) → (Nat → Nat → Int32) → Prop}   {x1 : Int32} {x2 : Int32} {ml : Nat → Nat → Int64} {k107 : (Int64) → (Int32) → (Nat → Int32) → (Nat → Nat → Int32) → Prop} (hb : mOK b)  (hk107 : ∀ (x3 : Int64) (x5 : Int32) (mi : Nat → Int32) (ma : Nat → Nat → Int32), k107 x3 x5 mi ma → VV l E X cX6_best RX6 "best" 8 r_X6_best none (vpv (fun (h' : AH) => ∃ (mi' : Nat → Int32) (ma' : Nat → Nat → Int32), h' = (mH b mi' ma' ml) ∧ post mi' ma')) (mH b mi ma ml) 0 0 107 [(0, va_rf (some (b 0))), (1, .int x1), (2, .int x2), (3, .long x3), (5, .int x5)] []) (x3 : Int64) (x5 : Int32) (mi : Nat → Int32) (ma : Nat → Nat → Int32) (hw : w_X6_best_178 post k107 x1 x2 ml x3 x5 mi ma) : VV l E X cX6_best RX6 "best" 8 r_X6_best none (vpv (fun (h' : AH) => ∃ (mi' : Nat → Int32) (ma' : Nat → Nat → Int32), h' = (mH b mi' ma' ml) ∧ post mi' ma')) (mH b mi ma ml) 0 0 178 [(0, va_rf (some (b 0))), (1, .int x1), (2, .int x2), (3, .long x3), (5, .int x5)] [] := by
  refine v_iconst dX6_best_178 ic_0 ?_
  refine v_istore (lv1 := [(7, .int (nI 0)), (0, va_rf (some (b 0))), (1, .int x1), (2, .int x2), (3, .long x3), (5, .int x5)]) dX6_best_179 (Nat.le_of_ble_eq_true rfl) rfl ?_
  obtain ⟨n_32, hw⟩ := hw
  refine v_sub [1, 2, 3, 4, 5, 0] rfl ?_
  exact b_X6_best_181 hb hk107 n_32 x3 x5 (nI 0) mi ma hw
theorem b_X6_best_165 {post : (Nat → Int32) → (Nat → Nat → Int32) → Prop}   {x1 : Int32} {x2 : Int32} {ml : Nat → Nat → Int64} {k107 : (Int64) → (Int32) → (Nat → Int32) → (Nat → Nat → Int32) → Prop} (hb : mOK b)  (hk107 : ∀ (x3 : Int64) (x5 : Int32) (mi : Nat → Int32) (ma : Nat → Nat → Int32), k107 x3 x5 mi ma → VV l E X cX6_best RX6 "best" 8 r_X6_best none (vpv (fun (h' : AH) => ∃ (mi' : Nat → Int32) (ma' : Nat → Nat → Int32), h' = (mH b mi' ma' ml) ∧ post mi' ma')) (mH b mi ma ml) 0 0 107 [(0, va_rf (some (b 0))), (1, .int x1), (2, .int x2), (3, .long x3), (5, .int x5)] []) (x3 : Int64) (x5 : Int32) (x6 : Int32) (mi : Nat → Int32) (ma : Nat → Nat → Int32) (hw : w_X6_best_165 post k107 x1 x2 ml x3 x5 x6 mi ma) : VV l E X cX6_best RX6 "best" 8 r_X6_best none (vpv (fun (h' : AH) => ∃ (mi' : Nat → Int32) (ma' : Nat → Nat → Int32), h' = (mH b mi' ma' ml) ∧ post mi' ma')) (mH b mi ma ml) 0 0 165 [(0, va_rf (some (b 0))), (1, .int x1), (2, .int x2), (3, .long x3), (5, .int x5), (6, .int x6)] [] := by
  refine v_iload_n (q := 2) dX6_best_165 rfl rfl ?_
  refine v_iconst dX6_best_166 ic_1 ?_
  obtain ⟨hw_35, hw_36⟩ := hw
  refine v_icmp_ne (tgt := 178) dX6_best_167 (by decide) (fun c_33 => ?_) (fun c_34 => ?_)
  · have hw := hw_35 c_33
    refine v_sub [0, 1, 2, 3, 4] rfl ?_
    exact b_X6_best_178 hb hk107 x3 x5 mi ma hw
  · have hw := hw_36 c_34
    refine v_iload (q := 5) dX6_best_170 rfl ?_
    obtain ⟨hw_39, hw_40⟩ := hw
    refine v_if_eq (tgt := 178) dX6_best_172 (by decide) (fun c_37 => ?_) (fun c_38 => ?_)
    · have hw := hw_39 c_37
      refine v_sub [0, 1, 2, 3, 4] rfl ?_
      exact b_X6_best_178 hb hk107 x3 x5 mi ma hw
    · have hw := hw_40 c_38
      refine v_goto (tgt := 249) dX6_best_175 (by decide) ?_
      refine v_sub [0, 1, 2, 3, 4] rfl ?_
      exact b_X6_best_249 hb hk107 x3 x5 mi ma hw
theorem b_X6_best_145 {post : (Nat → Int32) → (Nat → Nat → Int32) → Prop}   {x1 : Int32} {x2 : Int32} {ml : Nat → Nat → Int64} {k107 : (Int64) → (Int32) → (Nat → Int32) → (Nat → Nat → Int32) → Prop} (hb : mOK b)  (hk107 : ∀ (x3 : Int64) (x5 : Int32) (mi : Nat → Int32) (ma : Nat → Nat → Int32), k107 x3 x5 mi ma → VV l E X cX6_best RX6 "best" 8 r_X6_best none (vpv (fun (h' : AH) => ∃ (mi' : Nat → Int32) (ma' : Nat → Nat → Int32), h' = (mH b mi' ma' ml) ∧ post mi' ma')) (mH b mi ma ml) 0 0 107 [(0, va_rf (some (b 0))), (1, .int x1), (2, .int x2), (3, .long x3), (5, .int x5)] []) (x3 : Int64) (x5 : Int32) (s0 : Int32) (mi : Nat → Int32) (ma : Nat → Nat → Int32) (hw : w_X6_best_145 post k107 x1 x2 ml x3 x5 s0 mi ma) : VV l E X cX6_best RX6 "best" 8 r_X6_best none (vpv (fun (h' : AH) => ∃ (mi' : Nat → Int32) (ma' : Nat → Nat → Int32), h' = (mH b mi' ma' ml) ∧ post mi' ma')) (mH b mi ma ml) 0 0 145 [(0, va_rf (some (b 0))), (1, .int x1), (2, .int x2), (3, .long x3), (5, .int x5)] [.int s0] := by
  refine v_istore (lv1 := [(6, .int s0), (0, va_rf (some (b 0))), (1, .int x1), (2, .int x2), (3, .long x3), (5, .int x5)]) dX6_best_145 (Nat.le_of_ble_eq_true rfl) rfl ?_
  refine v_aload_n (q := 1) dX6_best_147 rfl rfl ?_
  refine v_iload (q := 5) dX6_best_148 rfl ?_
  refine v_callV q1915 q1917 qs80 q113 q1918 (ci := 7) rfl (mH_obj hb) n_X6_isEarly ⟨Nat.le_of_ble_eq_true rfl, Nat.le_of_ble_eq_true rfl⟩ [.int x5] [] (met_X6_isEarly hb hw) rfl (Nat.zero_le _) ⟨Nat.le_refl _, Nat.le_refl _⟩ dX6_best_150 rfl (v_ki (fun z_41 h1 hv => ?_))
  clear hw
  obtain ⟨e9, hw⟩ := hv
  refine v_heap e9 ?_
  clear e9
  obtain ⟨hw_44, hw_45⟩ := hw
  refine v_if_eq (tgt := 249) dX6_best_153 (by decide) (fun c_42 => ?_) (fun c_43 => ?_)
  · have hw := hw_44 c_42
    refine v_sub [1, 2, 3, 4, 5] rfl ?_
    exact b_X6_best_249 hb hk107 x3 x5 mi ma hw
  · have hw := hw_45 c_43
    refine v_iload_n (q := 3) dX6_best_156 rfl rfl ?_
    obtain ⟨hw_48, hw_49⟩ := hw
    refine v_if_ne (tgt := 165) dX6_best_157 (by decide) (fun c_46 => ?_) (fun c_47 => ?_)
    · have hw := hw_48 c_46
      refine v_sub [1, 2, 3, 4, 5, 0] rfl ?_
      exact b_X6_best_165 hb hk107 x3 x5 s0 mi ma hw
    · have hw := hw_49 c_47
      refine v_iload (q := 0) dX6_best_160 rfl ?_
      obtain ⟨hw_52, hw_53⟩ := hw
      refine v_if_eq (tgt := 249) dX6_best_162 (by decide) (fun c_50 => ?_) (fun c_51 => ?_)
      · have hw := hw_52 c_50
        refine v_sub [1, 2, 3, 4, 5] rfl ?_
        exact b_X6_best_249 hb hk107 x3 x5 mi ma hw
      · have hw := hw_53 c_51
        refine v_sub [1, 2, 3, 4, 5, 0] rfl ?_
        exact b_X6_best_165 hb hk107 x3 x5 s0 mi ma hw
theorem b_X6_best_107 {post : (Nat → Int32) → (Nat → Nat → Int32) → Prop}   {x1 : Int32} {x2 : Int32} {ml : Nat → Nat → Int64}  (hb : mOK b)   : ∀ (n0 : Nat) (x3 : Int64) (x5 : Int32) (mi : Nat → Int32) (ma : Nat → Nat → Int32), w_X6_best_107 post x1 x2 ml n0 x3 x5 mi ma → VV l E X cX6_best RX6 "best" 8 r_X6_best none (vpv (fun (h' : AH) => ∃ (mi' : Nat → Int32) (ma' : Nat → Nat → Int32), h' = (mH b mi' ma' ml) ∧ post mi' ma')) (mH b mi ma ml) 0 0 107 [(0, va_rf (some (b 0))), (1, .int x1), (2, .int x2), (3, .long x3), (5, .int x5)] [] := by
  intro n0
  induction n0 with
  | zero =>
    intro x3 x5 mi ma hw
    exact hw.elim
  | succ n0 ih =>
    intro x3 x5 mi ma hw
    refine v_iload (q := 4) dX6_best_107 rfl ?_
    refine v_aload_n (q := 0) dX6_best_109 rfl rfl ?_
    refine vm_get hb 2 (Nat.le_of_ble_eq_true rfl) q1616 rfl dX6_best_110 rfl ?_
    refine v_iconst dX6_best_113 ic_0 ?_
    obtain ⟨hi_54, hw⟩ := hw
    refine v_iald dX6_best_114 (mH_ar2 hb) hi_54 ?_
    obtain ⟨hw_57, hw_58⟩ := hw
    refine v_icmp_ge (tgt := 255) dX6_best_115 (by decide) (fun c_55 => ?_) (fun c_56 => ?_)
    · have hw := hw_57 c_55
      exact v_vret dX6_best_255 rfl ⟨rfl, _, _, rfl, hw⟩
    · have hw := hw_58 c_56
      refine v_aload_n (q := 0) dX6_best_118 rfl rfl ?_
      refine vm_get hb 2 (Nat.le_of_ble_eq_true rfl) q1616 rfl dX6_best_119 rfl ?_
      refine v_iconst dX6_best_122 ic_1 ?_
      refine v_iload (q := 4) dX6_best_123 rfl ?_
      refine v_iadd dX6_best_125 ?_
      obtain ⟨hi_59, hw⟩ := hw
      refine v_iald dX6_best_126 (mH_ar2 hb) hi_59 ?_
      refine v_aload_n (q := 0) dX6_best_127 rfl rfl ?_
      refine vm_get hb 2 (Nat.le_of_ble_eq_true rfl) q1616 rfl dX6_best_128 rfl ?_
      refine v_sipush dX6_best_131 sp_163 ?_
      refine v_iload_n (q := 1) dX6_best_134 rfl rfl ?_
      refine v_iadd dX6_best_135 ?_
      obtain ⟨hi_60, hw⟩ := hw
      refine v_iald dX6_best_136 (mH_ar2 hb) hi_60 ?_
      obtain ⟨hw_63, hw_64⟩ := hw
      refine v_icmp_ne (tgt := 144) dX6_best_137 (by decide) (fun c_61 => ?_) (fun c_62 => ?_)
      · have hw := hw_63 c_61
        refine v_iconst dX6_best_144 ic_0 ?_
        refine v_sub [0, 1, 2, 3, 4] rfl ?_
        exact b_X6_best_145 hb (fun q0 q1 q2 q3 z => ih q0 q1 q2 q3 z) x3 x5 (nI 0) mi ma hw
      · have hw := hw_64 c_62
        refine v_iconst dX6_best_140 ic_1 ?_
        refine v_goto (tgt := 145) dX6_best_141 (by decide) ?_
        refine v_sub [0, 1, 2, 3, 4] rfl ?_
        exact b_X6_best_145 hb (fun q0 q1 q2 q3 z => ih q0 q1 q2 q3 z) x3 x5 (nI 1) mi ma hw
theorem e_X6_best {post : (Nat → Int32) → (Nat → Nat → Int32) → Prop}   {x1 : Int32} {x2 : Int32} {mi : Nat → Int32} {ma : Nat → Nat → Int32} {ml : Nat → Nat → Int64} (hb : mOK b)  (hw : w_X6_best post  x1 x2 mi ma ml) : VV l E X cX6_best RX6 "best" 8 r_X6_best none (vpv (fun (h' : AH) => ∃ (mi' : Nat → Int32) (ma' : Nat → Nat → Int32), h' = (mH b mi' ma' ml) ∧ post mi' ma')) (mH b mi ma ml) 0 0 0 [(0, va_rf (some (b 0))), (1, .int x1), (2, .int x2)] [] := by
  refine v_aload_n (q := 0) dX6_best_0 rfl rfl ?_
  refine v_iconst dX6_best_1 ic_m1 ?_
  obtain ⟨mi_65, emi_65⟩ : ∃ z9 : Nat → Int32, z9 = upd mi 28 (-1) := ⟨_, rfl⟩
  replace hw := hw mi_65 emi_65
  refine vm_put hb 28 (Nat.le_of_ble_eq_true rfl) q1642 rfl rfl rfl dX6_best_2 emi_65 rfl ?_
  refine v_aload_n (q := 0) dX6_best_5 rfl rfl ?_
  refine v_iconst dX6_best_6 ic_m1 ?_
  obtain ⟨mi_66, emi_66⟩ : ∃ z9 : Nat → Int32, z9 = upd mi_65 29 (-1) := ⟨_, rfl⟩
  replace hw := hw mi_66 emi_66
  refine vm_put hb 29 (Nat.le_of_ble_eq_true rfl) q1643 rfl rfl rfl dX6_best_7 emi_66 rfl ?_
  refine v_aload_n (q := 0) dX6_best_10 rfl rfl ?_
  refine vm_get hb 3 (Nat.le_of_ble_eq_true rfl) q1617 rfl dX6_best_11 rfl ?_
  refine v_sipush dX6_best_14 sp_480 ?_
  refine v_iload_n (q := 1) dX6_best_17 rfl rfl ?_
  refine v_iadd dX6_best_18 ?_
  obtain ⟨hi_67, hw⟩ := hw
  refine v_lald dX6_best_19 (mH_ar3 hb) hi_67 ?_
  refine v_topl (fun y_68 e_68 => ?_)
  replace hw := hw y_68 e_68
  refine v_lstore_n (lv1 := [(3, .long y_68), (0, va_rf (some (b 0))), (1, .int x1), (2, .int x2)]) dX6_best_20 rfl (Nat.le_of_ble_eq_true rfl) rfl ?_
  refine v_iload_n (q := 3) dX6_best_21 rfl rfl ?_
  refine v_iconst dX6_best_22 ic_3 ?_
  obtain ⟨hw_71, hw_72⟩ := hw
  refine v_icmp_ne (tgt := 104) dX6_best_23 (by decide) (fun c_69 => ?_) (fun c_70 => ?_)
  · have hw := hw_71 c_69
    refine v_iconst dX6_best_104 ic_0 ?_
    refine v_istore (lv1 := [(5, .int (nI 0)), (3, .long y_68), (0, va_rf (some (b 0))), (1, .int x1), (2, .int x2)]) dX6_best_105 (Nat.le_of_ble_eq_true rfl) rfl ?_
    obtain ⟨n_73, hw⟩ := hw
    refine v_sub [2, 3, 4, 1, 0] rfl ?_
    exact b_X6_best_107 hb n_73 y_68 (nI 0) mi_66 ma hw
  · have hw := hw_72 c_70
    refine v_iconst dX6_best_26 ic_0 ?_
    refine v_istore (lv1 := [(5, .int (nI 0)), (3, .long y_68), (0, va_rf (some (b 0))), (1, .int x1), (2, .int x2)]) dX6_best_27 (Nat.le_of_ble_eq_true rfl) rfl ?_
    obtain ⟨n_74, hw⟩ := hw
    refine v_sub [2, 3, 4, 1, 0] rfl ?_
    exact b_X6_best_29 hb n_74 y_68 (nI 0) mi_66 ma hw
theorem met_X6_best {post : (Nat → Int32) → (Nat → Nat → Int32) → Prop}   {x1 : Int32} {x2 : Int32} {mi : Nat → Int32} {ma : Nat → Nat → Int32} {ml : Nat → Nat → Int64} (hb : mOK b)  (hw : w_X6_best post  x1 x2 mi ma ml) : Mt l E yX6_best (ws_ yX6_best cX6_best 8 none) r_X6_best [va_rf (some (b 0)), .int x1, .int x2] (mH b mi ma ml) (vpv (fun (h' : AH) => ∃ (mi' : Nat → Int32) (ma' : Nat → Nat → Int32), h' = (mH b mi' ma' ml) ∧ post mi' ma')) := v_entry (by decide +kernel) (Nat.le_of_ble_eq_true rfl) rfl (fun _ => e_X6_best hb hw)
/-! X6_whoseIs -/
abbrev r_X6_whoseIs : Room := { frames := 5, cells := 0, slots := 0, locals := 126 }
theorem n_X6_whoseIs : vdn yX6_whoseIs 1 := ⟨by decide +kernel, by decide +kernel, by decide +kernel⟩
def w_X6_whoseIs_64 (post : (Int32) → (Nat → Int32) → (Nat → Nat → Int32) → Prop) (k4 : (Int32) → (Int32) → (Nat → Int32) → (Nat → Nat → Int32) → Prop) (x1 : Int32) (ml : Nat → Nat → Int64) (x3 : Int32) (s0 : Int32) (mi : Nat → Int32) (ma : Nat → Nat → Int32) : Prop :=
 (∀ z_1 : Int32, z_1 = x3 + (nI 1) → (k4 s0 z_1 mi ma))
def w_X6_whoseIs_59 (post : (Int32) → (Nat → Int32) → (Nat → Nat → Int32) → Prop) (k4 : (Int32) → (Int32) → (Nat → Int32) → (Nat → Nat → Int32) → Prop) (x1 : Int32) (ml : Nat → Nat → Int64) (x3 : Int32) (mi : Nat → Int32) (ma : Nat → Nat → Int32) : Prop :=
 (w_X6_whoseIs_64 post k4 x1 ml x3 (nI 1) mi ma)
def w_X6_whoseIs_4 (post : (Int32) → (Nat → Int32) → (Nat → Nat → Int32) → Prop) (x1 : Int32) (ml : Nat → Nat → Int64) : Nat → (Int32) → (Int32) → (Nat → Int32) → (Nat → Nat → Int32) → Prop
 | 0, _, _, _, _ => False
 | n0 + 1, x2, x3, mi, ma =>
 (((nI 4) ≤ x3 → (∀ mi_6 : Nat → Int32, mi_6 = upd mi 30 (-1) → ((x2 = 0 → (post (nI 5) mi_6 ma)) ∧ (¬ x2 = 0 → (post (nI 4) mi_6 ma))))) ∧ (¬ (nI 4) ≤ x3 → (w_X6_best (fun (mi_11 : Nat → Int32) (ma_12 : Nat → Nat → Int32) => (∀ mi_13 : Nat → Int32, mi_13 = upd mi_11 30 (mi_11 29) → (vp_in (nI 248) 3372 ∧ (((mi_13 28) < (ma_12 2 ((nI 248)).toNatClampNeg) → ((¬ x2 = 0 → (w_X6_whoseIs_59 post (fun (q0 : Int32) (q1 : Int32) (q2 : Nat → Int32) (q3 : Nat → Nat → Int32) => w_X6_whoseIs_4 post x1 ml n0 q0 q1 q2 q3) x1 ml x3 mi_13 ma_12)) ∧ (x2 = 0 → (vp_in (nI 249) 3372 ∧ (((mi_13 28) < (ma_12 2 ((nI 249)).toNatClampNeg) → (w_X6_whoseIs_64 post (fun (q0 : Int32) (q1 : Int32) (q2 : Nat → Int32) (q3 : Nat → Nat → Int32) => w_X6_whoseIs_4 post x1 ml n0 q0 q1 q2 q3) x1 ml x3 (nI 0) mi_13 ma_12)) ∧ (¬ (mi_13 28) < (ma_12 2 ((nI 249)).toNatClampNeg) → (w_X6_whoseIs_59 post (fun (q0 : Int32) (q1 : Int32) (q2 : Nat → Int32) (q3 : Nat → Nat → Int32) => w_X6_whoseIs_4 post x1 ml n0 q0 q1 q2 q3) x1 ml x3 mi_13 ma_12))))))) ∧ (¬ (mi_13 28) < (ma_12 2 ((nI 248)).toNatClampNeg) → (post x3 mi_13 ma_12)))))) x1 x3 mi ma ml)))
def w_X6_whoseIs (post : (Int32) → (Nat → Int32) → (Nat → Nat → Int32) → Prop) (x1 : Int32) (mi : Nat → Int32) (ma : Nat → Nat → Int32) (ml : Nat → Nat → Int64) : Prop :=
 (∃ n1 : Nat, (w_X6_whoseIs_4 post x1 ml n1 (nI 0) (nI 0) mi ma))
theorem b_X6_whoseIs_64 {post : (Int32) → (Nat → Int32) → (Nat → Nat → Int32) → Prop}   {x1 : Int32} {ml : Nat → Nat → Int64} {k4 : (Int32) → (Int32) → (Nat → Int32) → (Nat → Nat → Int32) → Prop} (hb : mOK b)  (hk4 : ∀ (x2 : Int32) (x3 : Int32) (mi : Nat → Int32) (ma : Nat → Nat → Int32), k4 x2 x3 mi ma → VV l E X cX6_whoseIs RX6 "whoseIs" 4 r_X6_whoseIs (some .int) (vpi (fun (r : Int32) (h' : AH) => ∃ (mi' : Nat → Int32) (ma' : Nat → Nat → Int32), h' = (mH b mi' ma' ml) ∧ post r mi' ma')) (mH b mi ma ml) 0 0 4 [(0, va_rf (some (b 0))), (1, .int x1), (2, .int x2), (3, .int x3)] []) (x3 : Int32) (s0 : Int32) (mi : Nat → Int32) (ma : Nat → Nat → Int32) (hw : w_X6_whoseIs_64 post k4 x1 ml x3 s0 mi ma) : VV l E X cX6_whoseIs RX6 "whoseIs" 4 r_X6_whoseIs (some .int) (vpi (fun (r : Int32) (h' : AH) => ∃ (mi' : Nat → Int32) (ma' : Nat → Nat → Int32), h' = (mH b mi' ma' ml) ∧ post r mi' ma')) (mH b mi ma ml) 0 0 64 [(0, va_rf (some (b 0))), (1, .int x1), (3, .int x3)] [.int s0] := by
  refine v_istore_n (lv1 := [(2, .int s0), (0, va_rf (some (b 0))), (1, .int x1), (3, .int x3)]) dX6_whoseIs_64 rfl (Nat.le_of_ble_eq_true rfl) rfl ?_
  obtain ⟨z_1, e_1⟩ : ∃ z9 : Int32, z9 = x3 + (nI 1) := ⟨_, rfl⟩
  replace hw := hw z_1 e_1
  refine v_iinc (q := 3) (v := z_1) (lv1 := [(3, .int z_1), (2, .int s0), (0, va_rf (some (b 0))), (1, .int x1)]) dX6_whoseIs_65 rfl (by rw [e_1, ic_1]) (Nat.le_of_ble_eq_true rfl) rfl ?_
  refine v_goto (tgt := 4) dX6_whoseIs_68 (by decide) ?_
  refine v_sub [2, 3, 1, 0] rfl ?_
  exact hk4 s0 z_1 mi ma hw
theorem b_X6_whoseIs_59 {post : (Int32) → (Nat → Int32) → (Nat → Nat → Int32) → Prop}   {x1 : Int32} {ml : Nat → Nat → Int64} {k4 : (Int32) → (Int32) → (Nat → Int32) → (Nat → Nat → Int32) → Prop} (hb : mOK b)  (hk4 : ∀ (x2 : Int32) (x3 : Int32) (mi : Nat → Int32) (ma : Nat → Nat → Int32), k4 x2 x3 mi ma → VV l E X cX6_whoseIs RX6 "whoseIs" 4 r_X6_whoseIs (some .int) (vpi (fun (r : Int32) (h' : AH) => ∃ (mi' : Nat → Int32) (ma' : Nat → Nat → Int32), h' = (mH b mi' ma' ml) ∧ post r mi' ma')) (mH b mi ma ml) 0 0 4 [(0, va_rf (some (b 0))), (1, .int x1), (2, .int x2), (3, .int x3)] []) (x3 : Int32) (mi : Nat → Int32) (ma : Nat → Nat → Int32) (hw : w_X6_whoseIs_59 post k4 x1 ml x3 mi ma) : VV l E X cX6_whoseIs RX6 "whoseIs" 4 r_X6_whoseIs (some .int) (vpi (fun (r : Int32) (h' : AH) => ∃ (mi' : Nat → Int32) (ma' : Nat → Nat → Int32), h' = (mH b mi' ma' ml) ∧ post r mi' ma')) (mH b mi ma ml) 0 0 59 [(0, va_rf (some (b 0))), (1, .int x1), (3, .int x3)] [] := by
  refine v_iconst dX6_whoseIs_59 ic_1 ?_
  refine v_goto (tgt := 64) dX6_whoseIs_60 (by decide) ?_
  refine v_sub [0, 1, 2] rfl ?_
  exact b_X6_whoseIs_64 hb hk4 x3 (nI 1) mi ma hw
theorem b_X6_whoseIs_4 {post : (Int32) → (Nat → Int32) → (Nat → Nat → Int32) → Prop}   {x1 : Int32} {ml : Nat → Nat → Int64}  (hb : mOK b)   : ∀ (n0 : Nat) (x2 : Int32) (x3 : Int32) (mi : Nat → Int32) (ma : Nat → Nat → Int32), w_X6_whoseIs_4 post x1 ml n0 x2 x3 mi ma → VV l E X cX6_whoseIs RX6 "whoseIs" 4 r_X6_whoseIs (some .int) (vpi (fun (r : Int32) (h' : AH) => ∃ (mi' : Nat → Int32) (ma' : Nat → Nat → Int32), h' = (mH b mi' ma' ml) ∧ post r mi' ma')) (mH b mi ma ml) 0 0 4 [(0, va_rf (some (b 0))), (1, .int x1), (2, .int x2), (3, .int x3)] [] := by
  intro n0
  induction n0 with
  | zero =>
    intro x2 x3 mi ma hw
    exact hw.elim
  | succ n0 ih =>
    intro x2 x3 mi ma hw
    refine v_iload_n (q := 3) dX6_whoseIs_4 rfl rfl ?_
    refine v_iconst dX6_whoseIs_5 ic_4 ?_
    obtain ⟨hw_4, hw_5⟩ := hw
    refine v_icmp_ge (tgt := 71) dX6_whoseIs_6 (by decide) (fun c_2 => ?_) (fun c_3 => ?_)
    · have hw := hw_4 c_2
      refine v_aload_n (q := 0) dX6_whoseIs_71 rfl rfl ?_
      refine v_iconst dX6_whoseIs_72 ic_m1 ?_
      obtain ⟨mi_6, emi_6⟩ : ∃ z9 : Nat → Int32, z9 = upd mi 30 (-1) := ⟨_, rfl⟩
      replace hw := hw mi_6 emi_6
      refine vm_put hb 30 (Nat.le_of_ble_eq_true rfl) q1644 rfl rfl rfl dX6_whoseIs_73 emi_6 rfl ?_
      refine v_iload_n (q := 2) dX6_whoseIs_76 rfl rfl ?_
      obtain ⟨hw_9, hw_10⟩ := hw
      refine v_if_eq (tgt := 84) dX6_whoseIs_77 (by decide) (fun c_7 => ?_) (fun c_8 => ?_)
      · have hw := hw_9 c_7
        refine v_iconst dX6_whoseIs_84 ic_5 ?_
        exact v_iret dX6_whoseIs_85 rfl ⟨_, rfl, _, _, rfl, hw⟩
      · have hw := hw_10 c_8
        refine v_iconst dX6_whoseIs_80 ic_4 ?_
        refine v_goto (tgt := 85) dX6_whoseIs_81 (by decide) ?_
        exact v_iret dX6_whoseIs_85 rfl ⟨_, rfl, _, _, rfl, hw⟩
    · have hw := hw_5 c_3
      refine v_aload_n (q := 0) dX6_whoseIs_9 rfl rfl ?_
      refine v_iload_n (q := 1) dX6_whoseIs_10 rfl rfl ?_
      refine v_iload_n (q := 3) dX6_whoseIs_11 rfl rfl ?_
      refine v_callV q1923 q1925 qs82 q113 q1926 (ci := 7) rfl (mH_obj hb) n_X6_best ⟨Nat.le_of_ble_eq_true rfl, Nat.le_of_ble_eq_true rfl⟩ [.int x1, .int x3] [] (met_X6_best hb hw) rfl (Nat.zero_le _) ⟨Nat.le_refl _, Nat.le_refl _⟩ dX6_whoseIs_12 rfl (v_kv (fun h1 hv => ?_))
      clear hw
      obtain ⟨mi_11, ma_12, rfl, hw⟩ := hv
      refine v_aload_n (q := 0) dX6_whoseIs_15 rfl rfl ?_
      refine v_aload_n (q := 0) dX6_whoseIs_16 rfl rfl ?_
      refine vm_get hb 29 (Nat.le_of_ble_eq_true rfl) q1643 rfl dX6_whoseIs_17 rfl ?_
      obtain ⟨mi_13, emi_13⟩ : ∃ z9 : Nat → Int32, z9 = upd mi_11 30 (mi_11 29) := ⟨_, rfl⟩
      replace hw := hw mi_13 emi_13
      refine vm_put hb 30 (Nat.le_of_ble_eq_true rfl) q1644 rfl rfl rfl dX6_whoseIs_20 emi_13 rfl ?_
      refine v_aload_n (q := 0) dX6_whoseIs_23 rfl rfl ?_
      refine vm_get hb 28 (Nat.le_of_ble_eq_true rfl) q1642 rfl dX6_whoseIs_24 rfl ?_
      refine v_aload_n (q := 0) dX6_whoseIs_27 rfl rfl ?_
      refine vm_get hb 2 (Nat.le_of_ble_eq_true rfl) q1616 rfl dX6_whoseIs_28 rfl ?_
      refine v_sipush dX6_whoseIs_31 sp_248 ?_
      obtain ⟨hi_14, hw⟩ := hw
      refine v_iald dX6_whoseIs_34 (mH_ar2 hb) hi_14 ?_
      obtain ⟨hw_17, hw_18⟩ := hw
      refine v_icmp_lt (tgt := 40) dX6_whoseIs_35 (by decide) (fun c_15 => ?_) (fun c_16 => ?_)
      · have hw := hw_17 c_15
        refine v_iload_n (q := 2) dX6_whoseIs_40 rfl rfl ?_
        obtain ⟨hw_21, hw_22⟩ := hw
        refine v_if_ne (tgt := 59) dX6_whoseIs_41 (by decide) (fun c_19 => ?_) (fun c_20 => ?_)
        · have hw := hw_21 c_19
          refine v_sub [0, 1, 3] rfl ?_
          exact b_X6_whoseIs_59 hb (fun q0 q1 q2 q3 z => ih q0 q1 q2 q3 z) x3 mi_13 ma_12 hw
        · have hw := hw_22 c_20
          refine v_aload_n (q := 0) dX6_whoseIs_44 rfl rfl ?_
          refine vm_get hb 28 (Nat.le_of_ble_eq_true rfl) q1642 rfl dX6_whoseIs_45 rfl ?_
          refine v_aload_n (q := 0) dX6_whoseIs_48 rfl rfl ?_
          refine vm_get hb 2 (Nat.le_of_ble_eq_true rfl) q1616 rfl dX6_whoseIs_49 rfl ?_
          refine v_sipush dX6_whoseIs_52 sp_249 ?_
          obtain ⟨hi_23, hw⟩ := hw
          refine v_iald dX6_whoseIs_55 (mH_ar2 hb) hi_23 ?_
          obtain ⟨hw_26, hw_27⟩ := hw
          refine v_icmp_lt (tgt := 63) dX6_whoseIs_56 (by decide) (fun c_24 => ?_) (fun c_25 => ?_)
          · have hw := hw_26 c_24
            refine v_iconst dX6_whoseIs_63 ic_0 ?_
            refine v_sub [0, 1, 3] rfl ?_
            exact b_X6_whoseIs_64 hb (fun q0 q1 q2 q3 z => ih q0 q1 q2 q3 z) x3 (nI 0) mi_13 ma_12 hw
          · have hw := hw_27 c_25
            refine v_sub [0, 1, 3] rfl ?_
            exact b_X6_whoseIs_59 hb (fun q0 q1 q2 q3 z => ih q0 q1 q2 q3 z) x3 mi_13 ma_12 hw
      · have hw := hw_18 c_16
        refine v_iload_n (q := 3) dX6_whoseIs_38 rfl rfl ?_
        exact v_iret dX6_whoseIs_39 rfl ⟨_, rfl, _, _, rfl, hw⟩
theorem e_X6_whoseIs {post : (Int32) → (Nat → Int32) → (Nat → Nat → Int32) → Prop}   {x1 : Int32} {mi : Nat → Int32} {ma : Nat → Nat → Int32} {ml : Nat → Nat → Int64} (hb : mOK b)  (hw : w_X6_whoseIs post  x1 mi ma ml) : VV l E X cX6_whoseIs RX6 "whoseIs" 4 r_X6_whoseIs (some .int) (vpi (fun (r : Int32) (h' : AH) => ∃ (mi' : Nat → Int32) (ma' : Nat → Nat → Int32), h' = (mH b mi' ma' ml) ∧ post r mi' ma')) (mH b mi ma ml) 0 0 0 [(0, va_rf (some (b 0))), (1, .int x1)] [] := by
  refine v_iconst dX6_whoseIs_0 ic_0 ?_
  refine v_istore_n (lv1 := [(2, .int (nI 0)), (0, va_rf (some (b 0))), (1, .int x1)]) dX6_whoseIs_1 rfl (Nat.le_of_ble_eq_true rfl) rfl ?_
  refine v_iconst dX6_whoseIs_2 ic_0 ?_
  refine v_istore_n (lv1 := [(3, .int (nI 0)), (2, .int (nI 0)), (0, va_rf (some (b 0))), (1, .int x1)]) dX6_whoseIs_3 rfl (Nat.le_of_ble_eq_true rfl) rfl ?_
  obtain ⟨n_28, hw⟩ := hw
  refine v_sub [2, 3, 1, 0] rfl ?_
  exact b_X6_whoseIs_4 hb n_28 (nI 0) (nI 0) mi ma hw
theorem met_X6_whoseIs {post : (Int32) → (Nat → Int32) → (Nat → Nat → Int32) → Prop}   {x1 : Int32} {mi : Nat → Int32} {ma : Nat → Nat → Int32} {ml : Nat → Nat → Int64} (hb : mOK b)  (hw : w_X6_whoseIs post  x1 mi ma ml) : Mt l E yX6_whoseIs (ws_ yX6_whoseIs cX6_whoseIs 4 (some .int)) r_X6_whoseIs [va_rf (some (b 0)), .int x1] (mH b mi ma ml) (vpi (fun (r : Int32) (h' : AH) => ∃ (mi' : Nat → Int32) (ma' : Nat → Nat → Int32), h' = (mH b mi' ma' ml) ∧ post r mi' ma')) := v_entry (by decide +kernel) (Nat.le_of_ble_eq_true rfl) rfl (fun _ => e_X6_whoseIs hb hw)
/-! X6_whose -/
abbrev r_X6_whose : Room := { frames := 6, cells := 0, slots := 0, locals := 149 }
theorem n_X6_whose : vdn yX6_whose 2 := ⟨by decide +kernel, by decide +kernel, by decide +kernel⟩
def w_X6_whose_35 (post : (Int32) → (Nat → Int32) → (Nat → Nat → Int32) → (Nat → Nat → Int64) → Prop) (x1 : Int32) (x2 : Int32) (mi : Nat → Int32) (ma : Nat → Nat → Int32) (ml : Nat → Nat → Int64) : Prop :=
 (w_X6_no (fun (z_1 : Int32) (ma_2 : Nat → Nat → Int32) => (post z_1 mi ma_2 ml)) (-2) mi ma ml)
def w_X6_whose (post : (Int32) → (Nat → Int32) → (Nat → Nat → Int32) → (Nat → Nat → Int64) → Prop) (x1 : Int32) (x2 : Int32) (mi : Nat → Int32) (ma : Nat → Nat → Int32) (ml : Nat → Nat → Int64) : Prop :=
 (∀ mi_3 : Nat → Int32, mi_3 = upd mi 0 (nI 0) → (vp_in (nI 162) 3372 ∧ (w_X6_within (fun (z_5 : Int32) => ((z_5 = 0 → (w_X6_whose_35 post x1 x2 mi_3 ma ml)) ∧ (¬ z_5 = 0 → (w_X6_within (fun (z_10 : Int32) => ((¬ z_10 = 0 → (w_X6_smooths (fun (mi_15 : Nat → Int32) (ma_16 : Nat → Nat → Int32) (ml_17 : Nat → Nat → Int64) => (w_X6_whoseIs (fun (z_18 : Int32) (mi_19 : Nat → Int32) (ma_20 : Nat → Nat → Int32) => ((¬ x2 = 0 → (post (mi_19 30) mi_19 ma_20 ml_17)) ∧ (x2 = 0 → (post z_18 mi_19 ma_20 ml_17)))) x1 mi_15 ma_16 ml_17)) mi_3 ma ml)) ∧ (z_10 = 0 → (w_X6_whose_35 post x1 x2 mi_3 ma ml)))) ((x2).toInt64) (lN 0) (lN 1))))) ((x1).toInt64) (lN 0) ((((ma 2 ((nI 162)).toNatClampNeg) - (nI 1))).toInt64))))
theorem b_X6_whose_35 {post : (Int32) → (Nat → Int32) → (Nat → Nat → Int32) → (Nat → Nat → Int64) → Prop}   {x1 : Int32} {x2 : Int32}  (hb : mOK b)   (mi : Nat → Int32) (ma : Nat → Nat → Int32) (ml : Nat → Nat → Int64) (hw : w_X6_whose_35 post x1 x2 mi ma ml) : VV l E X cX6_whose RX6 "whose" 4 r_X6_whose (some .int) (vpi (fun (r : Int32) (h' : AH) => ∃ (mi' : Nat → Int32) (ma' : Nat → Nat → Int32) (ml' : Nat → Nat → Int64), h' = (mH b mi' ma' ml') ∧ post r mi' ma' ml')) (mH b mi ma ml) 0 0 35 [(0, va_rf (some (b 0))), (1, .int x1), (2, .int x2)] [] := by
  refine v_aload_n (q := 0) dX6_whose_35 rfl rfl ?_
  refine v_bipush dX6_whose_36 bp_m2 ?_
  refine v_callV q1737 q1739 qs53 q113 q1740 (ci := 7) rfl (mH_obj hb) n_X6_no ⟨Nat.le_of_ble_eq_true rfl, Nat.le_of_ble_eq_true rfl⟩ [.int (-2)] [] (met_X6_no hb hw) rfl (Nat.zero_le _) ⟨Nat.le_refl _, Nat.le_refl _⟩ dX6_whose_38 rfl (v_ki (fun z_1 h1 hv => ?_))
  clear hw
  obtain ⟨ma_2, rfl, hw⟩ := hv
  exact v_iret dX6_whose_41 rfl ⟨_, rfl, _, _, _, rfl, hw⟩
theorem e_X6_whose {post : (Int32) → (Nat → Int32) → (Nat → Nat → Int32) → (Nat → Nat → Int64) → Prop}   {x1 : Int32} {x2 : Int32} {mi : Nat → Int32} {ma : Nat → Nat → Int32} {ml : Nat → Nat → Int64} (hb : mOK b)  (hw : w_X6_whose post  x1 x2 mi ma ml) : VV l E X cX6_whose RX6 "whose" 4 r_X6_whose (some .int) (vpi (fun (r : Int32) (h' : AH) => ∃ (mi' : Nat → Int32) (ma' : Nat → Nat → Int32) (ml' : Nat → Nat → Int64), h' = (mH b mi' ma' ml') ∧ post r mi' ma' ml')) (mH b mi ma ml) 0 0 0 [(0, va_rf (some (b 0))), (1, .int x1), (2, .int x2)] [] := by
  refine v_aload_n (q := 0) dX6_whose_0 rfl rfl ?_
  refine v_iconst dX6_whose_1 ic_0 ?_
  obtain ⟨mi_3, emi_3⟩ : ∃ z9 : Nat → Int32, z9 = upd mi 0 (nI 0) := ⟨_, rfl⟩
  replace hw := hw mi_3 emi_3
  refine vm_put hb 0 (Nat.le_of_ble_eq_true rfl) q1614 rfl rfl rfl dX6_whose_2 emi_3 rfl ?_
  refine v_iload_n (q := 1) dX6_whose_5 rfl rfl ?_
  refine v_i2l dX6_whose_6 ?_
  refine v_lconst (v := lN 0) dX6_whose_7 rfl ?_
  refine v_aload_n (q := 0) dX6_whose_8 rfl rfl ?_
  refine vm_get hb 2 (Nat.le_of_ble_eq_true rfl) q1616 rfl dX6_whose_9 rfl ?_
  refine v_sipush dX6_whose_12 sp_162 ?_
  obtain ⟨hi_4, hw⟩ := hw
  refine v_iald dX6_whose_15 (mH_ar2 hb) hi_4 ?_
  refine v_iconst dX6_whose_16 ic_1 ?_
  refine v_isub dX6_whose_17 ?_
  refine v_i2l dX6_whose_18 ?_
  refine v_callS q1734 q1735 q113 q1736 n_X6_within ⟨Nat.le_of_ble_eq_true rfl, Nat.le_of_ble_eq_true rfl⟩ [.long ((x1).toInt64), .long (lN 0), .long ((((ma 2 ((nI 162)).toNatClampNeg) - (nI 1))).toInt64)] [] (met_X6_within hw) rfl (Nat.zero_le _) ⟨Nat.le_refl _, Nat.le_refl _⟩ dX6_whose_19 rfl (v_ki (fun z_5 h1 hv => ?_))
  clear hw
  obtain ⟨e9, hw⟩ := hv
  refine v_heap e9 ?_
  clear e9
  obtain ⟨hw_8, hw_9⟩ := hw
  refine v_if_eq (tgt := 35) dX6_whose_22 (by decide) (fun c_6 => ?_) (fun c_7 => ?_)
  · have hw := hw_8 c_6
    refine v_sub [0, 1, 2] rfl ?_
    exact b_X6_whose_35 hb mi_3 ma ml hw
  · have hw := hw_9 c_7
    refine v_iload_n (q := 2) dX6_whose_25 rfl rfl ?_
    refine v_i2l dX6_whose_26 ?_
    refine v_lconst (v := lN 0) dX6_whose_27 rfl ?_
    refine v_lconst (v := lN 1) dX6_whose_28 rfl ?_
    refine v_callS q1734 q1735 q113 q1736 n_X6_within ⟨Nat.le_of_ble_eq_true rfl, Nat.le_of_ble_eq_true rfl⟩ [.long ((x2).toInt64), .long (lN 0), .long (lN 1)] [] (met_X6_within hw) rfl (Nat.zero_le _) ⟨Nat.le_refl _, Nat.le_refl _⟩ dX6_whose_29 rfl (v_ki (fun z_10 h1 hv => ?_))
    clear hw
    obtain ⟨e9, hw⟩ := hv
    refine v_heap e9 ?_
    clear e9
    obtain ⟨hw_13, hw_14⟩ := hw
    refine v_if_ne (tgt := 42) dX6_whose_32 (by decide) (fun c_11 => ?_) (fun c_12 => ?_)
    · have hw := hw_13 c_11
      refine v_aload_n (q := 0) dX6_whose_42 rfl rfl ?_
      refine v_callV q1911 q1913 qs79 q113 q1914 (ci := 7) rfl (mH_obj hb) n_X6_smooths ⟨Nat.le_of_ble_eq_true rfl, Nat.le_of_ble_eq_true rfl⟩ [] [] (met_X6_smooths hb hw) rfl (Nat.zero_le _) ⟨Nat.le_refl _, Nat.le_refl _⟩ dX6_whose_43 rfl (v_kv (fun h1 hv => ?_))
      clear hw
      obtain ⟨mi_15, ma_16, ml_17, rfl, hw⟩ := hv
      refine v_aload_n (q := 0) dX6_whose_46 rfl rfl ?_
      refine v_iload_n (q := 1) dX6_whose_47 rfl rfl ?_
      refine v_callV q1919 q1921 qs81 q113 q1922 (ci := 7) rfl (mH_obj hb) n_X6_whoseIs ⟨Nat.le_of_ble_eq_true rfl, Nat.le_of_ble_eq_true rfl⟩ [.int x1] [] (met_X6_whoseIs hb hw) rfl (Nat.zero_le _) ⟨Nat.le_refl _, Nat.le_refl _⟩ dX6_whose_48 rfl (v_ki (fun z_18 h1 hv => ?_))
      clear hw
      obtain ⟨mi_19, ma_20, rfl, hw⟩ := hv
      refine v_istore_n (lv1 := [(3, .int z_18), (0, va_rf (some (b 0))), (1, .int x1), (2, .int x2)]) dX6_whose_51 rfl (Nat.le_of_ble_eq_true rfl) rfl ?_
      refine v_iload_n (q := 3) dX6_whose_52 rfl rfl ?_
      obtain ⟨hw_23, hw_24⟩ := hw
      refine v_if_ne (tgt := 60) dX6_whose_53 (by decide) (fun c_21 => ?_) (fun c_22 => ?_)
      · have hw := hw_23 c_21
        refine v_aload_n (q := 1) dX6_whose_60 rfl rfl ?_
        refine vm_get hb 30 (Nat.le_of_ble_eq_true rfl) q1644 rfl dX6_whose_61 rfl ?_
        exact v_iret dX6_whose_64 rfl ⟨_, rfl, _, _, _, rfl, hw⟩
      · have hw := hw_24 c_22
        refine v_iload_n (q := 0) dX6_whose_56 rfl rfl ?_
        refine v_goto (tgt := 64) dX6_whose_57 (by decide) ?_
        exact v_iret dX6_whose_64 rfl ⟨_, rfl, _, _, _, rfl, hw⟩
    · have hw := hw_14 c_12
      refine v_sub [0, 1, 2] rfl ?_
      exact b_X6_whose_35 hb mi_3 ma ml hw
theorem met_X6_whose {post : (Int32) → (Nat → Int32) → (Nat → Nat → Int32) → (Nat → Nat → Int64) → Prop}   {x1 : Int32} {x2 : Int32} {mi : Nat → Int32} {ma : Nat → Nat → Int32} {ml : Nat → Nat → Int64} (hb : mOK b)  (hw : w_X6_whose post  x1 x2 mi ma ml) : Mt l E yX6_whose (ws_ yX6_whose cX6_whose 4 (some .int)) r_X6_whose [va_rf (some (b 0)), .int x1, .int x2] (mH b mi ma ml) (vpi (fun (r : Int32) (h' : AH) => ∃ (mi' : Nat → Int32) (ma' : Nat → Nat → Int32) (ml' : Nat → Nat → Int64), h' = (mH b mi' ma' ml') ∧ post r mi' ma' ml')) := v_entry (by decide +kernel) (Nat.le_of_ble_eq_true rfl) rfl (fun _ => e_X6_whose hb hw)
/-! X6_mostOfSongs -/
abbrev r_X6_mostOfSongs : Room := { frames := 3, cells := 0, slots := 0, locals := 73 }
theorem n_X6_mostOfSongs : vdn yX6_mostOfSongs 2 := ⟨by decide +kernel, by decide +kernel, by decide +kernel⟩
def w_X6_mostOfSongs_79 (post : (Int32) → (Nat → Nat → Int32) → Prop) (k6 : (Int32) → (Int32) → (Nat → Nat → Int32) → Prop) (k20 : (Int32) → (Int32) → (Int32) → (Nat → Nat → Int32) → Prop) (x1 : Int64) (x3 : Int32) (mi : Nat → Int32) (ml : Nat → Nat → Int64) (x5 : Int32) (x6 : Int32) (s0 : Int32) (ma : Nat → Nat → Int32) : Prop :=
 (∀ z_1 : Int32, z_1 = x6 + (nI 1) → (k20 s0 x5 z_1 ma))
def w_X6_mostOfSongs_87 (post : (Int32) → (Nat → Nat → Int32) → Prop) (k6 : (Int32) → (Int32) → (Nat → Nat → Int32) → Prop) (x1 : Int64) (x3 : Int32) (mi : Nat → Int32) (ml : Nat → Nat → Int64) (x4 : Int32) (x5 : Int32) (ma : Nat → Nat → Int32) : Prop :=
 (∀ z_2 : Int32, z_2 = x5 + (nI 1) → (k6 x4 z_2 ma))
def w_X6_mostOfSongs_20 (post : (Int32) → (Nat → Nat → Int32) → Prop) (k6 : (Int32) → (Int32) → (Nat → Nat → Int32) → Prop) (x1 : Int64) (x3 : Int32) (mi : Nat → Int32) (ml : Nat → Nat → Int64) : Nat → (Int32) → (Int32) → (Int32) → (Nat → Nat → Int32) → Prop
 | 0, _, _, _, _ => False
 | n0 + 1, x4, x5, x6, ma =>
 (vp_in ((nI 121) + x5) 3372 ∧ (((ma 2 (((nI 121) + x5)).toNatClampNeg) ≤ x6 → (w_X6_mostOfSongs_87 post k6 x1 x3 mi ml x4 x5 ma)) ∧ (¬ (ma 2 (((nI 121) + x5)).toNatClampNeg) ≤ x6 → (w_X6_isEarly (fun (z_8 : Int32) => ((¬ z_8 = x3 → (w_X6_mostOfSongs_87 post k6 x1 x3 mi ml x4 x5 ma)) ∧ (z_8 = x3 → (vp_in (((nI 12) * x5) + x6) 2352 ∧ (w_X6_likeOf (fun (z_14 : Int32) (ma_15 : Nat → Nat → Int32) => ((z_14 ≤ x4 → (w_X6_mostOfSongs_79 post k6 (fun (q0 : Int32) (q1 : Int32) (q2 : Int32) (q3 : Nat → Nat → Int32) => w_X6_mostOfSongs_20 post k6 x1 x3 mi ml n0 q0 q1 q2 q3) x1 x3 mi ml x5 x6 x4 ma_15)) ∧ (¬ z_14 ≤ x4 → (w_X6_mostOfSongs_79 post k6 (fun (q0 : Int32) (q1 : Int32) (q2 : Int32) (q3 : Nat → Nat → Int32) => w_X6_mostOfSongs_20 post k6 x1 x3 mi ml n0 q0 q1 q2 q3) x1 x3 mi ml x5 x6 z_14 ma_15)))) x1 (ml 3 ((((nI 12) * x5) + x6)).toNatClampNeg) mi ma ml))))) x5 mi ma ml))))
def w_X6_mostOfSongs_6 (post : (Int32) → (Nat → Nat → Int32) → Prop) (x1 : Int64) (x3 : Int32) (mi : Nat → Int32) (ml : Nat → Nat → Int64) : Nat → (Int32) → (Int32) → (Nat → Nat → Int32) → Prop
 | 0, _, _, _ => False
 | n0 + 1, x4, x5, ma =>
 (vp_in (nI 0) 3372 ∧ (((ma 2 ((nI 0)).toNatClampNeg) ≤ x5 → (post x4 ma)) ∧ (¬ (ma 2 ((nI 0)).toNatClampNeg) ≤ x5 → (∃ n1 : Nat, (w_X6_mostOfSongs_20 post (fun (q0 : Int32) (q1 : Int32) (q2 : Nat → Nat → Int32) => w_X6_mostOfSongs_6 post x1 x3 mi ml n0 q0 q1 q2) x1 x3 mi ml n1 x4 x5 (nI 0) ma)))))
def w_X6_mostOfSongs (post : (Int32) → (Nat → Nat → Int32) → Prop) (x1 : Int64) (x3 : Int32) (mi : Nat → Int32) (ma : Nat → Nat → Int32) (ml : Nat → Nat → Int64) : Prop :=
 (∃ n1 : Nat, (w_X6_mostOfSongs_6 post x1 x3 mi ml n1 (-1) (nI 0) ma))
theorem b_X6_mostOfSongs_79 {post : (Int32) → (Nat → Nat → Int32) → Prop}   {x1 : Int64} {x3 : Int32} {mi : Nat → Int32} {ml : Nat → Nat → Int64} {k6 : (Int32) → (Int32) → (Nat → Nat → Int32) → Prop} {k20 : (Int32) → (Int32) → (Int32) → (Nat → Nat → Int32) → Prop} (hb : mOK b)  (hk6 : ∀ (x4 : Int32) (x5 : Int32) (ma : Nat → Nat → Int32), k6 x4 x5 ma → VV l E X cX6_mostOfSongs RX6 "mostOfSongs" 8 r_X6_mostOfSongs (some .int) (vpi (fun (r : Int32) (h' : AH) => ∃ (ma' : Nat → Nat → Int32), h' = (mH b mi ma' ml) ∧ post r ma')) (mH b mi ma ml) 0 0 6 [(0, va_rf (some (b 0))), (1, .long x1), (3, .int x3), (4, .int x4), (5, .int x5)] []) (hk20 : ∀ (x4 : Int32) (x5 : Int32) (x6 : Int32) (ma : Nat → Nat → Int32), k20 x4 x5 x6 ma → VV l E X cX6_mostOfSongs RX6 "mostOfSongs" 8 r_X6_mostOfSongs (some .int) (vpi (fun (r : Int32) (h' : AH) => ∃ (ma' : Nat → Nat → Int32), h' = (mH b mi ma' ml) ∧ post r ma')) (mH b mi ma ml) 0 0 20 [(0, va_rf (some (b 0))), (1, .long x1), (3, .int x3), (4, .int x4), (5, .int x5), (6, .int x6)] []) (x5 : Int32) (x6 : Int32) (s0 : Int32) (ma : Nat → Nat → Int32) (hw : w_X6_mostOfSongs_79 post k6 k20 x1 x3 mi ml x5 x6 s0 ma) : VV l E X cX6_mostOfSongs RX6 "mostOfSongs" 8 r_X6_mostOfSongs (some .int) (vpi (fun (r : Int32) (h' : AH) => ∃ (ma' : Nat → Nat → Int32), h' = (mH b mi ma' ml) ∧ post r ma')) (mH b mi ma ml) 0 0 79 [(0, va_rf (some (b 0))), (1, .long x1), (3, .int x3), (5, .int x5), (6, .int x6)] [.int s0] := by
  refine v_istore (lv1 := [(4, .int s0), (0, va_rf (some (b 0))), (1, .long x1), (3, .int x3), (5, .int x5), (6, .int x6)]) dX6_mostOfSongs_79 (Nat.le_of_ble_eq_true rfl) rfl ?_
  obtain ⟨z_1, e_1⟩ : ∃ z9 : Int32, z9 = x6 + (nI 1) := ⟨_, rfl⟩
  replace hw := hw z_1 e_1
  refine v_iinc (q := 5) (v := z_1) (lv1 := [(6, .int z_1), (4, .int s0), (0, va_rf (some (b 0))), (1, .long x1), (3, .int x3), (5, .int x5)]) dX6_mostOfSongs_81 rfl (by rw [e_1, ic_1]) (Nat.le_of_ble_eq_true rfl) rfl ?_
  refine v_goto (tgt := 20) dX6_mostOfSongs_84 (by decide) ?_
  refine v_sub [2, 3, 4, 1, 5, 0] rfl ?_
  exact hk20 s0 x5 z_1 ma hw
theorem b_X6_mostOfSongs_87 {post : (Int32) → (Nat → Nat → Int32) → Prop}   {x1 : Int64} {x3 : Int32} {mi : Nat → Int32} {ml : Nat → Nat → Int64} {k6 : (Int32) → (Int32) → (Nat → Nat → Int32) → Prop} (hb : mOK b)  (hk6 : ∀ (x4 : Int32) (x5 : Int32) (ma : Nat → Nat → Int32), k6 x4 x5 ma → VV l E X cX6_mostOfSongs RX6 "mostOfSongs" 8 r_X6_mostOfSongs (some .int) (vpi (fun (r : Int32) (h' : AH) => ∃ (ma' : Nat → Nat → Int32), h' = (mH b mi ma' ml) ∧ post r ma')) (mH b mi ma ml) 0 0 6 [(0, va_rf (some (b 0))), (1, .long x1), (3, .int x3), (4, .int x4), (5, .int x5)] []) (x4 : Int32) (x5 : Int32) (ma : Nat → Nat → Int32) (hw : w_X6_mostOfSongs_87 post k6 x1 x3 mi ml x4 x5 ma) : VV l E X cX6_mostOfSongs RX6 "mostOfSongs" 8 r_X6_mostOfSongs (some .int) (vpi (fun (r : Int32) (h' : AH) => ∃ (ma' : Nat → Nat → Int32), h' = (mH b mi ma' ml) ∧ post r ma')) (mH b mi ma ml) 0 0 87 [(0, va_rf (some (b 0))), (1, .long x1), (3, .int x3), (4, .int x4), (5, .int x5)] [] := by
  obtain ⟨z_2, e_2⟩ : ∃ z9 : Int32, z9 = x5 + (nI 1) := ⟨_, rfl⟩
  replace hw := hw z_2 e_2
  refine v_iinc (q := 4) (v := z_2) (lv1 := [(5, .int z_2), (0, va_rf (some (b 0))), (1, .long x1), (3, .int x3), (4, .int x4)]) dX6_mostOfSongs_87 rfl (by rw [e_2, ic_1]) (Nat.le_of_ble_eq_true rfl) rfl ?_
  refine v_goto (tgt := 6) dX6_mostOfSongs_90 (by decide) ?_
  refine v_sub [1, 2, 3, 4, 0] rfl ?_
  exact hk6 x4 z_2 ma hw
theorem b_X6_mostOfSongs_20 {post : (Int32) → (Nat → Nat → Int32) → Prop}   {x1 : Int64} {x3 : Int32} {mi : Nat → Int32} {ml : Nat → Nat → Int64} {k6 : (Int32) → (Int32) → (Nat → Nat → Int32) → Prop} (hb : mOK b)  (hk6 : ∀ (x4 : Int32) (x5 : Int32) (ma : Nat → Nat → Int32), k6 x4 x5 ma → VV l E X cX6_mostOfSongs RX6 "mostOfSongs" 8 r_X6_mostOfSongs (some .int) (vpi (fun (r : Int32) (h' : AH) => ∃ (ma' : Nat → Nat → Int32), h' = (mH b mi ma' ml) ∧ post r ma')) (mH b mi ma ml) 0 0 6 [(0, va_rf (some (b 0))), (1, .long x1), (3, .int x3), (4, .int x4), (5, .int x5)] []) : ∀ (n0 : Nat) (x4 : Int32) (x5 : Int32) (x6 : Int32) (ma : Nat → Nat → Int32), w_X6_mostOfSongs_20 post k6 x1 x3 mi ml n0 x4 x5 x6 ma → VV l E X cX6_mostOfSongs RX6 "mostOfSongs" 8 r_X6_mostOfSongs (some .int) (vpi (fun (r : Int32) (h' : AH) => ∃ (ma' : Nat → Nat → Int32), h' = (mH b mi ma' ml) ∧ post r ma')) (mH b mi ma ml) 0 0 20 [(0, va_rf (some (b 0))), (1, .long x1), (3, .int x3), (4, .int x4), (5, .int x5), (6, .int x6)] [] := by
  intro n0
  induction n0 with
  | zero =>
    intro x4 x5 x6 ma hw
    exact hw.elim
  | succ n0 ih =>
    intro x4 x5 x6 ma hw
    refine v_iload (q := 5) dX6_mostOfSongs_20 rfl ?_
    refine v_aload_n (q := 0) dX6_mostOfSongs_22 rfl rfl ?_
    refine vm_get hb 2 (Nat.le_of_ble_eq_true rfl) q1616 rfl dX6_mostOfSongs_23 rfl ?_
    refine v_bipush dX6_mostOfSongs_26 bp_121 ?_
    refine v_iload (q := 4) dX6_mostOfSongs_28 rfl ?_
    refine v_iadd dX6_mostOfSongs_30 ?_
    obtain ⟨hi_3, hw⟩ := hw
    refine v_iald dX6_mostOfSongs_31 (mH_ar2 hb) hi_3 ?_
    obtain ⟨hw_6, hw_7⟩ := hw
    refine v_icmp_ge (tgt := 87) dX6_mostOfSongs_32 (by decide) (fun c_4 => ?_) (fun c_5 => ?_)
    · have hw := hw_6 c_4
      refine v_sub [0, 1, 2, 3, 4] rfl ?_
      exact b_X6_mostOfSongs_87 hb hk6 x4 x5 ma hw
    · have hw := hw_7 c_5
      refine v_aload_n (q := 0) dX6_mostOfSongs_35 rfl rfl ?_
      refine v_iload (q := 4) dX6_mostOfSongs_36 rfl ?_
      refine v_callV q1915 q1917 qs80 q113 q1918 (ci := 7) rfl (mH_obj hb) n_X6_isEarly ⟨Nat.le_of_ble_eq_true rfl, Nat.le_of_ble_eq_true rfl⟩ [.int x5] [] (met_X6_isEarly hb hw) rfl (Nat.zero_le _) ⟨Nat.le_refl _, Nat.le_refl _⟩ dX6_mostOfSongs_38 rfl (v_ki (fun z_8 h1 hv => ?_))
      clear hw
      obtain ⟨e9, hw⟩ := hv
      refine v_heap e9 ?_
      clear e9
      refine v_iload_n (q := 2) dX6_mostOfSongs_41 rfl rfl ?_
      obtain ⟨hw_11, hw_12⟩ := hw
      refine v_icmp_ne (tgt := 87) dX6_mostOfSongs_42 (by decide) (fun c_9 => ?_) (fun c_10 => ?_)
      · have hw := hw_11 c_9
        refine v_sub [0, 1, 2, 3, 4] rfl ?_
        exact b_X6_mostOfSongs_87 hb hk6 x4 x5 ma hw
      · have hw := hw_12 c_10
        refine v_aload_n (q := 0) dX6_mostOfSongs_45 rfl rfl ?_
        refine v_lload_n (q := 1) dX6_mostOfSongs_46 rfl rfl ?_
        refine v_aload_n (q := 0) dX6_mostOfSongs_47 rfl rfl ?_
        refine vm_get hb 3 (Nat.le_of_ble_eq_true rfl) q1617 rfl dX6_mostOfSongs_48 rfl ?_
        refine v_bipush dX6_mostOfSongs_51 bp_12 ?_
        refine v_iload (q := 4) dX6_mostOfSongs_53 rfl ?_
        refine v_imul dX6_mostOfSongs_55 ?_
        refine v_iload (q := 5) dX6_mostOfSongs_56 rfl ?_
        refine v_iadd dX6_mostOfSongs_58 ?_
        obtain ⟨hi_13, hw⟩ := hw
        refine v_lald dX6_mostOfSongs_59 (mH_ar3 hb) hi_13 ?_
        refine v_callV q1783 q1785 qs56 q113 q1786 (ci := 7) rfl (mH_obj hb) n_X6_likeOf ⟨Nat.le_of_ble_eq_true rfl, Nat.le_of_ble_eq_true rfl⟩ [.long x1, .long (ml 3 ((((nI 12) * x5) + x6)).toNatClampNeg)] [] (met_X6_likeOf hb hw) rfl (Nat.zero_le _) ⟨Nat.le_refl _, Nat.le_refl _⟩ dX6_mostOfSongs_60 rfl (v_ki (fun z_14 h1 hv => ?_))
        clear hw
        obtain ⟨ma_15, rfl, hw⟩ := hv
        refine v_istore (lv1 := [(7, .int z_14), (0, va_rf (some (b 0))), (1, .long x1), (3, .int x3), (4, .int x4), (5, .int x5), (6, .int x6)]) dX6_mostOfSongs_63 (Nat.le_of_ble_eq_true rfl) rfl ?_
        refine v_iload (q := 0) dX6_mostOfSongs_65 rfl ?_
        refine v_iload (q := 4) dX6_mostOfSongs_67 rfl ?_
        obtain ⟨hw_18, hw_19⟩ := hw
        refine v_icmp_le (tgt := 77) dX6_mostOfSongs_69 (by decide) (fun c_16 => ?_) (fun c_17 => ?_)
        · have hw := hw_18 c_16
          refine v_iload (q := 4) dX6_mostOfSongs_77 rfl ?_
          refine v_sub [1, 2, 3, 5, 6] rfl ?_
          exact b_X6_mostOfSongs_79 hb hk6 (fun q0 q1 q2 q3 z => ih q0 q1 q2 q3 z) x5 x6 x4 ma_15 hw
        · have hw := hw_19 c_17
          refine v_iload (q := 0) dX6_mostOfSongs_72 rfl ?_
          refine v_goto (tgt := 79) dX6_mostOfSongs_74 (by decide) ?_
          refine v_sub [1, 2, 3, 5, 6] rfl ?_
          exact b_X6_mostOfSongs_79 hb hk6 (fun q0 q1 q2 q3 z => ih q0 q1 q2 q3 z) x5 x6 z_14 ma_15 hw
theorem b_X6_mostOfSongs_6 {post : (Int32) → (Nat → Nat → Int32) → Prop}   {x1 : Int64} {x3 : Int32} {mi : Nat → Int32} {ml : Nat → Nat → Int64}  (hb : mOK b)   : ∀ (n0 : Nat) (x4 : Int32) (x5 : Int32) (ma : Nat → Nat → Int32), w_X6_mostOfSongs_6 post x1 x3 mi ml n0 x4 x5 ma → VV l E X cX6_mostOfSongs RX6 "mostOfSongs" 8 r_X6_mostOfSongs (some .int) (vpi (fun (r : Int32) (h' : AH) => ∃ (ma' : Nat → Nat → Int32), h' = (mH b mi ma' ml) ∧ post r ma')) (mH b mi ma ml) 0 0 6 [(0, va_rf (some (b 0))), (1, .long x1), (3, .int x3), (4, .int x4), (5, .int x5)] [] := by
  intro n0
  induction n0 with
  | zero =>
    intro x4 x5 ma hw
    exact hw.elim
  | succ n0 ih =>
    intro x4 x5 ma hw
    refine v_iload (q := 4) dX6_mostOfSongs_6 rfl ?_
    refine v_aload_n (q := 0) dX6_mostOfSongs_8 rfl rfl ?_
    refine vm_get hb 2 (Nat.le_of_ble_eq_true rfl) q1616 rfl dX6_mostOfSongs_9 rfl ?_
    refine v_iconst dX6_mostOfSongs_12 ic_0 ?_
    obtain ⟨hi_20, hw⟩ := hw
    refine v_iald dX6_mostOfSongs_13 (mH_ar2 hb) hi_20 ?_
    obtain ⟨hw_23, hw_24⟩ := hw
    refine v_icmp_ge (tgt := 93) dX6_mostOfSongs_14 (by decide) (fun c_21 => ?_) (fun c_22 => ?_)
    · have hw := hw_23 c_21
      refine v_iload (q := 3) dX6_mostOfSongs_93 rfl ?_
      exact v_iret dX6_mostOfSongs_95 rfl ⟨_, rfl, _, rfl, hw⟩
    · have hw := hw_24 c_22
      refine v_iconst dX6_mostOfSongs_17 ic_0 ?_
      refine v_istore (lv1 := [(6, .int (nI 0)), (0, va_rf (some (b 0))), (1, .long x1), (3, .int x3), (4, .int x4), (5, .int x5)]) dX6_mostOfSongs_18 (Nat.le_of_ble_eq_true rfl) rfl ?_
      obtain ⟨n_25, hw⟩ := hw
      refine v_sub [1, 2, 3, 4, 5, 0] rfl ?_
      exact b_X6_mostOfSongs_20 hb (fun q0 q1 q2 z => ih q0 q1 q2 z) n_25 x4 x5 (nI 0) ma hw
theorem e_X6_mostOfSongs {post : (Int32) → (Nat → Nat → Int32) → Prop}   {x1 : Int64} {x3 : Int32} {mi : Nat → Int32} {ma : Nat → Nat → Int32} {ml : Nat → Nat → Int64} (hb : mOK b)  (hw : w_X6_mostOfSongs post  x1 x3 mi ma ml) : VV l E X cX6_mostOfSongs RX6 "mostOfSongs" 8 r_X6_mostOfSongs (some .int) (vpi (fun (r : Int32) (h' : AH) => ∃ (ma' : Nat → Nat → Int32), h' = (mH b mi ma' ml) ∧ post r ma')) (mH b mi ma ml) 0 0 0 [(0, va_rf (some (b 0))), (1, .long x1), (3, .int x3)] [] := by
  refine v_iconst dX6_mostOfSongs_0 ic_m1 ?_
  refine v_istore (lv1 := [(4, .int (-1)), (0, va_rf (some (b 0))), (1, .long x1), (3, .int x3)]) dX6_mostOfSongs_1 (Nat.le_of_ble_eq_true rfl) rfl ?_
  refine v_iconst dX6_mostOfSongs_3 ic_0 ?_
  refine v_istore (lv1 := [(5, .int (nI 0)), (4, .int (-1)), (0, va_rf (some (b 0))), (1, .long x1), (3, .int x3)]) dX6_mostOfSongs_4 (Nat.le_of_ble_eq_true rfl) rfl ?_
  obtain ⟨n_26, hw⟩ := hw
  refine v_sub [2, 3, 4, 1, 0] rfl ?_
  exact b_X6_mostOfSongs_6 hb n_26 (-1) (nI 0) ma hw
theorem met_X6_mostOfSongs {post : (Int32) → (Nat → Nat → Int32) → Prop}   {x1 : Int64} {x3 : Int32} {mi : Nat → Int32} {ma : Nat → Nat → Int32} {ml : Nat → Nat → Int64} (hb : mOK b)  (hw : w_X6_mostOfSongs post  x1 x3 mi ma ml) : Mt l E yX6_mostOfSongs (ws_ yX6_mostOfSongs cX6_mostOfSongs 8 (some .int)) r_X6_mostOfSongs [va_rf (some (b 0)), .long x1, .int x3] (mH b mi ma ml) (vpi (fun (r : Int32) (h' : AH) => ∃ (ma' : Nat → Nat → Int32), h' = (mH b mi ma' ml) ∧ post r ma')) := v_entry (by decide +kernel) (Nat.le_of_ble_eq_true rfl) rfl (fun _ => e_X6_mostOfSongs hb hw)
/-! X6_mostOfPrint -/
abbrev r_X6_mostOfPrint : Room := { frames := 3, cells := 0, slots := 0, locals := 73 }
theorem n_X6_mostOfPrint : vdn yX6_mostOfPrint 1 := ⟨by decide +kernel, by decide +kernel, by decide +kernel⟩
def w_X6_mostOfPrint_48 (post : (Int32) → (Nat → Nat → Int32) → Prop) (k5 : (Int32) → (Int32) → (Nat → Nat → Int32) → Prop) (x1 : Int64) (mi : Nat → Int32) (ml : Nat → Nat → Int64) (x4 : Int32) (s0 : Int32) (ma : Nat → Nat → Int32) : Prop :=
 (∀ z_1 : Int32, z_1 = x4 + (nI 1) → (k5 s0 z_1 ma))
def w_X6_mostOfPrint_5 (post : (Int32) → (Nat → Nat → Int32) → Prop) (x1 : Int64) (mi : Nat → Int32) (ml : Nat → Nat → Int64) : Nat → (Int32) → (Int32) → (Nat → Nat → Int32) → Prop
 | 0, _, _, _ => False
 | n0 + 1, x3, x4, ma =>
 (vp_in (nI 162) 3372 ∧ (((ma 2 ((nI 162)).toNatClampNeg) ≤ x4 → (post x3 ma)) ∧ (¬ (ma 2 ((nI 162)).toNatClampNeg) ≤ x4 → (vp_in ((nI 480) + x4) 2352 ∧ (w_X6_likeOf (fun (z_8 : Int32) (ma_9 : Nat → Nat → Int32) => ((z_8 ≤ x3 → (w_X6_mostOfPrint_48 post (fun (q0 : Int32) (q1 : Int32) (q2 : Nat → Nat → Int32) => w_X6_mostOfPrint_5 post x1 mi ml n0 q0 q1 q2) x1 mi ml x4 x3 ma_9)) ∧ (¬ z_8 ≤ x3 → (w_X6_mostOfPrint_48 post (fun (q0 : Int32) (q1 : Int32) (q2 : Nat → Nat → Int32) => w_X6_mostOfPrint_5 post x1 mi ml n0 q0 q1 q2) x1 mi ml x4 z_8 ma_9)))) x1 (ml 3 (((nI 480) + x4)).toNatClampNeg) mi ma ml)))))
def w_X6_mostOfPrint (post : (Int32) → (Nat → Nat → Int32) → Prop) (x1 : Int64) (mi : Nat → Int32) (ma : Nat → Nat → Int32) (ml : Nat → Nat → Int64) : Prop :=
 (∃ n1 : Nat, (w_X6_mostOfPrint_5 post x1 mi ml n1 (-1) (nI 0) ma))
theorem b_X6_mostOfPrint_48 {post : (Int32) → (Nat → Nat → Int32) → Prop}   {x1 : Int64} {mi : Nat → Int32} {ml : Nat → Nat → Int64} {k5 : (Int32) → (Int32) → (Nat → Nat → Int32) → Prop} (hb : mOK b)  (hk5 : ∀ (x3 : Int32) (x4 : Int32) (ma : Nat → Nat → Int32), k5 x3 x4 ma → VV l E X cX6_mostOfPrint RX6 "mostOfPrint" 6 r_X6_mostOfPrint (some .int) (vpi (fun (r : Int32) (h' : AH) => ∃ (ma' : Nat → Nat → Int32), h' = (mH b mi ma' ml) ∧ post r ma')) (mH b mi ma ml) 0 0 5 [(0, va_rf (some (b 0))), (1, .long x1), (3, .int x3), (4, .int x4)] []) (x4 : Int32) (s0 : Int32) (ma : Nat → Nat → Int32) (hw : w_X6_mostOfPrint_48 post k5 x1 mi ml x4 s0 ma) : VV l E X cX6_mostOfPrint RX6 "mostOfPrint" 6 r_X6_mostOfPrint (some .int) (vpi (fun (r : Int32) (h' : AH) => ∃ (ma' : Nat → Nat → Int32), h' = (mH b mi ma' ml) ∧ post r ma')) (mH b mi ma ml) 0 0 48 [(0, va_rf (some (b 0))), (1, .long x1), (4, .int x4)] [.int s0] := by
  refine v_istore_n (lv1 := [(3, .int s0), (0, va_rf (some (b 0))), (1, .long x1), (4, .int x4)]) dX6_mostOfPrint_48 rfl (Nat.le_of_ble_eq_true rfl) rfl ?_
  obtain ⟨z_1, e_1⟩ : ∃ z9 : Int32, z9 = x4 + (nI 1) := ⟨_, rfl⟩
  replace hw := hw z_1 e_1
  refine v_iinc (q := 3) (v := z_1) (lv1 := [(4, .int z_1), (3, .int s0), (0, va_rf (some (b 0))), (1, .long x1)]) dX6_mostOfPrint_49 rfl (by rw [e_1, ic_1]) (Nat.le_of_ble_eq_true rfl) rfl ?_
  refine v_goto (tgt := 5) dX6_mostOfPrint_52 (by decide) ?_
  refine v_sub [2, 3, 1, 0] rfl ?_
  exact hk5 s0 z_1 ma hw
theorem b_X6_mostOfPrint_5 {post : (Int32) → (Nat → Nat → Int32) → Prop}   {x1 : Int64} {mi : Nat → Int32} {ml : Nat → Nat → Int64}  (hb : mOK b)   : ∀ (n0 : Nat) (x3 : Int32) (x4 : Int32) (ma : Nat → Nat → Int32), w_X6_mostOfPrint_5 post x1 mi ml n0 x3 x4 ma → VV l E X cX6_mostOfPrint RX6 "mostOfPrint" 6 r_X6_mostOfPrint (some .int) (vpi (fun (r : Int32) (h' : AH) => ∃ (ma' : Nat → Nat → Int32), h' = (mH b mi ma' ml) ∧ post r ma')) (mH b mi ma ml) 0 0 5 [(0, va_rf (some (b 0))), (1, .long x1), (3, .int x3), (4, .int x4)] [] := by
  intro n0
  induction n0 with
  | zero =>
    intro x3 x4 ma hw
    exact hw.elim
  | succ n0 ih =>
    intro x3 x4 ma hw
    refine v_iload (q := 3) dX6_mostOfPrint_5 rfl ?_
    refine v_aload_n (q := 0) dX6_mostOfPrint_7 rfl rfl ?_
    refine vm_get hb 2 (Nat.le_of_ble_eq_true rfl) q1616 rfl dX6_mostOfPrint_8 rfl ?_
    refine v_sipush dX6_mostOfPrint_11 sp_162 ?_
    obtain ⟨hi_2, hw⟩ := hw
    refine v_iald dX6_mostOfPrint_14 (mH_ar2 hb) hi_2 ?_
    obtain ⟨hw_5, hw_6⟩ := hw
    refine v_icmp_ge (tgt := 55) dX6_mostOfPrint_15 (by decide) (fun c_3 => ?_) (fun c_4 => ?_)
    · have hw := hw_5 c_3
      refine v_iload_n (q := 2) dX6_mostOfPrint_55 rfl rfl ?_
      exact v_iret dX6_mostOfPrint_56 rfl ⟨_, rfl, _, rfl, hw⟩
    · have hw := hw_6 c_4
      refine v_aload_n (q := 0) dX6_mostOfPrint_18 rfl rfl ?_
      refine v_lload_n (q := 1) dX6_mostOfPrint_19 rfl rfl ?_
      refine v_aload_n (q := 0) dX6_mostOfPrint_20 rfl rfl ?_
      refine vm_get hb 3 (Nat.le_of_ble_eq_true rfl) q1617 rfl dX6_mostOfPrint_21 rfl ?_
      refine v_sipush dX6_mostOfPrint_24 sp_480 ?_
      refine v_iload (q := 3) dX6_mostOfPrint_27 rfl ?_
      refine v_iadd dX6_mostOfPrint_29 ?_
      obtain ⟨hi_7, hw⟩ := hw
      refine v_lald dX6_mostOfPrint_30 (mH_ar3 hb) hi_7 ?_
      refine v_callV q1783 q1785 qs56 q113 q1786 (ci := 7) rfl (mH_obj hb) n_X6_likeOf ⟨Nat.le_of_ble_eq_true rfl, Nat.le_of_ble_eq_true rfl⟩ [.long x1, .long (ml 3 (((nI 480) + x4)).toNatClampNeg)] [] (met_X6_likeOf hb hw) rfl (Nat.zero_le _) ⟨Nat.le_refl _, Nat.le_refl _⟩ dX6_mostOfPrint_31 rfl (v_ki (fun z_8 h1 hv => ?_))
      clear hw
      obtain ⟨ma_9, rfl, hw⟩ := hv
      refine v_istore (lv1 := [(5, .int z_8), (0, va_rf (some (b 0))), (1, .long x1), (3, .int x3), (4, .int x4)]) dX6_mostOfPrint_34 (Nat.le_of_ble_eq_true rfl) rfl ?_
      refine v_iload (q := 0) dX6_mostOfPrint_36 rfl ?_
      refine v_iload_n (q := 3) dX6_mostOfPrint_38 rfl rfl ?_
      obtain ⟨hw_12, hw_13⟩ := hw
      refine v_icmp_le (tgt := 47) dX6_mostOfPrint_39 (by decide) (fun c_10 => ?_) (fun c_11 => ?_)
      · have hw := hw_12 c_10
        refine v_iload_n (q := 3) dX6_mostOfPrint_47 rfl rfl ?_
        refine v_sub [1, 2, 4] rfl ?_
        exact b_X6_mostOfPrint_48 hb (fun q0 q1 q2 z => ih q0 q1 q2 z) x4 x3 ma_9 hw
      · have hw := hw_13 c_11
        refine v_iload (q := 0) dX6_mostOfPrint_42 rfl ?_
        refine v_goto (tgt := 48) dX6_mostOfPrint_44 (by decide) ?_
        refine v_sub [1, 2, 4] rfl ?_
        exact b_X6_mostOfPrint_48 hb (fun q0 q1 q2 z => ih q0 q1 q2 z) x4 z_8 ma_9 hw
theorem e_X6_mostOfPrint {post : (Int32) → (Nat → Nat → Int32) → Prop}   {x1 : Int64} {mi : Nat → Int32} {ma : Nat → Nat → Int32} {ml : Nat → Nat → Int64} (hb : mOK b)  (hw : w_X6_mostOfPrint post  x1 mi ma ml) : VV l E X cX6_mostOfPrint RX6 "mostOfPrint" 6 r_X6_mostOfPrint (some .int) (vpi (fun (r : Int32) (h' : AH) => ∃ (ma' : Nat → Nat → Int32), h' = (mH b mi ma' ml) ∧ post r ma')) (mH b mi ma ml) 0 0 0 [(0, va_rf (some (b 0))), (1, .long x1)] [] := by
  refine v_iconst dX6_mostOfPrint_0 ic_m1 ?_
  refine v_istore_n (lv1 := [(3, .int (-1)), (0, va_rf (some (b 0))), (1, .long x1)]) dX6_mostOfPrint_1 rfl (Nat.le_of_ble_eq_true rfl) rfl ?_
  refine v_iconst dX6_mostOfPrint_2 ic_0 ?_
  refine v_istore (lv1 := [(4, .int (nI 0)), (3, .int (-1)), (0, va_rf (some (b 0))), (1, .long x1)]) dX6_mostOfPrint_3 (Nat.le_of_ble_eq_true rfl) rfl ?_
  obtain ⟨n_14, hw⟩ := hw
  refine v_sub [2, 3, 1, 0] rfl ?_
  exact b_X6_mostOfPrint_5 hb n_14 (-1) (nI 0) ma hw
theorem met_X6_mostOfPrint {post : (Int32) → (Nat → Nat → Int32) → Prop}   {x1 : Int64} {mi : Nat → Int32} {ma : Nat → Nat → Int32} {ml : Nat → Nat → Int64} (hb : mOK b)  (hw : w_X6_mostOfPrint post  x1 mi ma ml) : Mt l E yX6_mostOfPrint (ws_ yX6_mostOfPrint cX6_mostOfPrint 6 (some .int)) r_X6_mostOfPrint [va_rf (some (b 0)), .long x1] (mH b mi ma ml) (vpi (fun (r : Int32) (h' : AH) => ∃ (ma' : Nat → Nat → Int32), h' = (mH b mi ma' ml) ∧ post r ma')) := v_entry (by decide +kernel) (Nat.le_of_ble_eq_true rfl) rfl (fun _ => e_X6_mostOfPrint hb hw)
/-! X6_late -/
abbrev r_X6_late : Room := { frames := 4, cells := 0, slots := 0, locals := 100 }
theorem n_X6_late : vdn yX6_late 2 := ⟨by decide +kernel, by decide +kernel, by decide +kernel⟩
def w_X6_late (post : (Int32) → (Nat → Int32) → (Nat → Nat → Int32) → Prop) (x1 : Int32) (x2 : Int32) (mi : Nat → Int32) (ma : Nat → Nat → Int32) (ml : Nat → Nat → Int64) : Prop :=
 (∀ mi_1 : Nat → Int32, mi_1 = upd mi 0 (nI 0) → (w_X6_isLine (fun (z_2 : Int32) => ((¬ z_2 = 0 → (w_X6_isEarly (fun (z_7 : Int32) => ((z_7 = 0 → (vp_in (((nI 12) * x1) + x2) 2352 ∧ (∀ y_13 : Int64, y_13 = (ml 3 ((((nI 12) * x1) + x2)).toNatClampNeg) → (w_X6_mostOfSongs (fun (z_14 : Int32) (ma_15 : Nat → Nat → Int32) => (vp_in (nI 248) 3372 ∧ ((z_14 < (ma_15 2 ((nI 248)).toNatClampNeg) → (w_X6_mostOfPrint (fun (z_21 : Int32) (ma_22 : Nat → Nat → Int32) => (vp_in (nI 248) 3372 ∧ ((z_21 < (ma_22 2 ((nI 248)).toNatClampNeg) → (post (nI 0) mi_1 ma_22)) ∧ (¬ z_21 < (ma_22 2 ((nI 248)).toNatClampNeg) → (post (nI 2) mi_1 ma_22))))) y_13 mi_1 ma_15 ml)) ∧ (¬ z_14 < (ma_15 2 ((nI 248)).toNatClampNeg) → (post (nI 1) mi_1 ma_15))))) y_13 (nI 1) mi_1 ma ml)))) ∧ (¬ z_7 = 0 → (w_X6_no (fun (z_28 : Int32) (ma_29 : Nat → Nat → Int32) => (post z_28 mi_1 ma_29)) (-5) mi_1 ma ml)))) x1 mi_1 ma ml)) ∧ (z_2 = 0 → (w_X6_no (fun (z_30 : Int32) (ma_31 : Nat → Nat → Int32) => (post z_30 mi_1 ma_31)) (-2) mi_1 ma ml)))) (nI 0) x1 x2 mi_1 ma ml))
theorem e_X6_late {post : (Int32) → (Nat → Int32) → (Nat → Nat → Int32) → Prop}   {x1 : Int32} {x2 : Int32} {mi : Nat → Int32} {ma : Nat → Nat → Int32} {ml : Nat → Nat → Int64} (hb : mOK b)  (hw : w_X6_late post  x1 x2 mi ma ml) : VV l E X cX6_late RX6 "late" 5 r_X6_late (some .int) (vpi (fun (r : Int32) (h' : AH) => ∃ (mi' : Nat → Int32) (ma' : Nat → Nat → Int32), h' = (mH b mi' ma' ml) ∧ post r mi' ma')) (mH b mi ma ml) 0 0 0 [(0, va_rf (some (b 0))), (1, .int x1), (2, .int x2)] [] := by
  refine v_aload_n (q := 0) dX6_late_0 rfl rfl ?_
  refine v_iconst dX6_late_1 ic_0 ?_
  obtain ⟨mi_1, emi_1⟩ : ∃ z9 : Nat → Int32, z9 = upd mi 0 (nI 0) := ⟨_, rfl⟩
  replace hw := hw mi_1 emi_1
  refine vm_put hb 0 (Nat.le_of_ble_eq_true rfl) q1614 rfl rfl rfl dX6_late_2 emi_1 rfl ?_
  refine v_aload_n (q := 0) dX6_late_5 rfl rfl ?_
  refine v_iconst dX6_late_6 ic_0 ?_
  refine v_iload_n (q := 1) dX6_late_7 rfl rfl ?_
  refine v_iload_n (q := 2) dX6_late_8 rfl rfl ?_
  refine v_callV q1775 q1777 qs55 q113 q1778 (ci := 7) rfl (mH_obj hb) n_X6_isLine ⟨Nat.le_of_ble_eq_true rfl, Nat.le_of_ble_eq_true rfl⟩ [.int (nI 0), .int x1, .int x2] [] (met_X6_isLine hb hw) rfl (Nat.zero_le _) ⟨Nat.le_refl _, Nat.le_refl _⟩ dX6_late_9 rfl (v_ki (fun z_2 h1 hv => ?_))
  clear hw
  obtain ⟨e9, hw⟩ := hv
  refine v_heap e9 ?_
  clear e9
  obtain ⟨hw_5, hw_6⟩ := hw
  refine v_if_ne (tgt := 22) dX6_late_12 (by decide) (fun c_3 => ?_) (fun c_4 => ?_)
  · have hw := hw_5 c_3
    refine v_aload_n (q := 0) dX6_late_22 rfl rfl ?_
    refine v_iload_n (q := 1) dX6_late_23 rfl rfl ?_
    refine v_callV q1915 q1917 qs80 q113 q1918 (ci := 7) rfl (mH_obj hb) n_X6_isEarly ⟨Nat.le_of_ble_eq_true rfl, Nat.le_of_ble_eq_true rfl⟩ [.int x1] [] (met_X6_isEarly hb hw) rfl (Nat.zero_le _) ⟨Nat.le_refl _, Nat.le_refl _⟩ dX6_late_24 rfl (v_ki (fun z_7 h1 hv => ?_))
    clear hw
    obtain ⟨e9, hw⟩ := hv
    refine v_heap e9 ?_
    clear e9
    obtain ⟨hw_10, hw_11⟩ := hw
    refine v_if_eq (tgt := 37) dX6_late_27 (by decide) (fun c_8 => ?_) (fun c_9 => ?_)
    · have hw := hw_10 c_8
      refine v_aload_n (q := 0) dX6_late_37 rfl rfl ?_
      refine vm_get hb 3 (Nat.le_of_ble_eq_true rfl) q1617 rfl dX6_late_38 rfl ?_
      refine v_bipush dX6_late_41 bp_12 ?_
      refine v_iload_n (q := 1) dX6_late_43 rfl rfl ?_
      refine v_imul dX6_late_44 ?_
      refine v_iload_n (q := 2) dX6_late_45 rfl rfl ?_
      refine v_iadd dX6_late_46 ?_
      obtain ⟨hi_12, hw⟩ := hw
      refine v_lald dX6_late_47 (mH_ar3 hb) hi_12 ?_
      refine v_topl (fun y_13 e_13 => ?_)
      replace hw := hw y_13 e_13
      refine v_lstore_n (lv1 := [(3, .long y_13), (0, va_rf (some (b 0))), (1, .int x1), (2, .int x2)]) dX6_late_48 rfl (Nat.le_of_ble_eq_true rfl) rfl ?_
      refine v_aload_n (q := 1) dX6_late_49 rfl rfl ?_
      refine v_lload_n (q := 0) dX6_late_50 rfl rfl ?_
      refine v_iconst dX6_late_51 ic_1 ?_
      refine v_callV q1935 q1937 qs84 q113 q1938 (ci := 7) rfl (mH_obj hb) n_X6_mostOfSongs ⟨Nat.le_of_ble_eq_true rfl, Nat.le_of_ble_eq_true rfl⟩ [.long y_13, .int (nI 1)] [] (met_X6_mostOfSongs hb hw) rfl (Nat.zero_le _) ⟨Nat.le_refl _, Nat.le_refl _⟩ dX6_late_52 rfl (v_ki (fun z_14 h1 hv => ?_))
      clear hw
      obtain ⟨ma_15, rfl, hw⟩ := hv
      refine v_aload_n (q := 1) dX6_late_55 rfl rfl ?_
      refine vm_get hb 2 (Nat.le_of_ble_eq_true rfl) q1616 rfl dX6_late_56 rfl ?_
      refine v_sipush dX6_late_59 sp_248 ?_
      obtain ⟨hi_16, hw⟩ := hw
      refine v_iald dX6_late_62 (mH_ar2 hb) hi_16 ?_
      obtain ⟨hw_19, hw_20⟩ := hw
      refine v_icmp_lt (tgt := 70) dX6_late_63 (by decide) (fun c_17 => ?_) (fun c_18 => ?_)
      · have hw := hw_19 c_17
        refine v_aload_n (q := 1) dX6_late_70 rfl rfl ?_
        refine v_lload_n (q := 0) dX6_late_71 rfl rfl ?_
        refine v_callV q1939 q1941 qs85 q113 q1942 (ci := 7) rfl (mH_obj hb) n_X6_mostOfPrint ⟨Nat.le_of_ble_eq_true rfl, Nat.le_of_ble_eq_true rfl⟩ [.long y_13] [] (met_X6_mostOfPrint hb hw) rfl (Nat.zero_le _) ⟨Nat.le_refl _, Nat.le_refl _⟩ dX6_late_72 rfl (v_ki (fun z_21 h1 hv => ?_))
        clear hw
        obtain ⟨ma_22, rfl, hw⟩ := hv
        refine v_aload_n (q := 1) dX6_late_75 rfl rfl ?_
        refine vm_get hb 2 (Nat.le_of_ble_eq_true rfl) q1616 rfl dX6_late_76 rfl ?_
        refine v_sipush dX6_late_79 sp_248 ?_
        obtain ⟨hi_23, hw⟩ := hw
        refine v_iald dX6_late_82 (mH_ar2 hb) hi_23 ?_
        obtain ⟨hw_26, hw_27⟩ := hw
        refine v_icmp_lt (tgt := 90) dX6_late_83 (by decide) (fun c_24 => ?_) (fun c_25 => ?_)
        · have hw := hw_26 c_24
          refine v_iconst dX6_late_90 ic_0 ?_
          exact v_iret dX6_late_91 rfl ⟨_, rfl, _, _, rfl, hw⟩
        · have hw := hw_27 c_25
          refine v_iconst dX6_late_86 ic_2 ?_
          refine v_goto (tgt := 91) dX6_late_87 (by decide) ?_
          exact v_iret dX6_late_91 rfl ⟨_, rfl, _, _, rfl, hw⟩
      · have hw := hw_20 c_18
        refine v_iconst dX6_late_66 ic_1 ?_
        refine v_goto (tgt := 91) dX6_late_67 (by decide) ?_
        exact v_iret dX6_late_91 rfl ⟨_, rfl, _, _, rfl, hw⟩
    · have hw := hw_11 c_9
      refine v_aload_n (q := 0) dX6_late_30 rfl rfl ?_
      refine v_bipush dX6_late_31 bp_m5 ?_
      refine v_callV q1737 q1739 qs53 q113 q1740 (ci := 7) rfl (mH_obj hb) n_X6_no ⟨Nat.le_of_ble_eq_true rfl, Nat.le_of_ble_eq_true rfl⟩ [.int (-5)] [] (met_X6_no hb hw) rfl (Nat.zero_le _) ⟨Nat.le_refl _, Nat.le_refl _⟩ dX6_late_33 rfl (v_ki (fun z_28 h1 hv => ?_))
      clear hw
      obtain ⟨ma_29, rfl, hw⟩ := hv
      exact v_iret dX6_late_36 rfl ⟨_, rfl, _, _, rfl, hw⟩
  · have hw := hw_6 c_4
    refine v_aload_n (q := 0) dX6_late_15 rfl rfl ?_
    refine v_bipush dX6_late_16 bp_m2 ?_
    refine v_callV q1737 q1739 qs53 q113 q1740 (ci := 7) rfl (mH_obj hb) n_X6_no ⟨Nat.le_of_ble_eq_true rfl, Nat.le_of_ble_eq_true rfl⟩ [.int (-2)] [] (met_X6_no hb hw) rfl (Nat.zero_le _) ⟨Nat.le_refl _, Nat.le_refl _⟩ dX6_late_18 rfl (v_ki (fun z_30 h1 hv => ?_))
    clear hw
    obtain ⟨ma_31, rfl, hw⟩ := hv
    exact v_iret dX6_late_21 rfl ⟨_, rfl, _, _, rfl, hw⟩
theorem met_X6_late {post : (Int32) → (Nat → Int32) → (Nat → Nat → Int32) → Prop}   {x1 : Int32} {x2 : Int32} {mi : Nat → Int32} {ma : Nat → Nat → Int32} {ml : Nat → Nat → Int64} (hb : mOK b)  (hw : w_X6_late post  x1 x2 mi ma ml) : Mt l E yX6_late (ws_ yX6_late cX6_late 5 (some .int)) r_X6_late [va_rf (some (b 0)), .int x1, .int x2] (mH b mi ma ml) (vpi (fun (r : Int32) (h' : AH) => ∃ (mi' : Nat → Int32) (ma' : Nat → Nat → Int32), h' = (mH b mi' ma' ml) ∧ post r mi' ma')) := v_entry (by decide +kernel) (Nat.le_of_ble_eq_true rfl) rfl (fun _ => e_X6_late hb hw)
/-! X6_counts -/
abbrev r_X6_counts : Room := { frames := 6, cells := 0, slots := 0, locals := 149 }
theorem n_X6_counts : vdn yX6_counts 0 := ⟨by decide +kernel, by decide +kernel, by decide +kernel⟩
def w_X6_counts_27 (post : (Nat → Int32) → (Nat → Nat → Int32) → (Nat → Nat → Int64) → Prop) : Nat → (Int32) → (Nat → Int32) → (Nat → Nat → Int32) → (Nat → Nat → Int64) → Prop
 | 0, _, _, _, _ => False
 | n0 + 1, x1, mi, ma, ml =>
 (vp_in (nI 162) 3372 ∧ (((ma 2 ((nI 162)).toNatClampNeg) ≤ x1 → (post mi ma ml)) ∧ (¬ (ma 2 ((nI 162)).toNatClampNeg) ≤ x1 → (w_X6_whoseIs (fun (z_6 : Int32) (mi_7 : Nat → Int32) (ma_8 : Nat → Nat → Int32) => (vp_in z_6 6 ∧ (vp_in z_6 6 ∧ ∀ ma_11 : Nat → Nat → Int32, ma_11 = mup ma_8 31 (z_6).toNatClampNeg ((ma_8 31 (z_6).toNatClampNeg) + (nI 1)) → (∀ z_12 : Int32, z_12 = x1 + (nI 1) → (w_X6_counts_27 post n0 z_12 mi_7 ma_11 ml))))) x1 mi ma ml))))
def w_X6_counts_6 (post : (Nat → Int32) → (Nat → Nat → Int32) → (Nat → Nat → Int64) → Prop) : Nat → (Int32) → (Nat → Int32) → (Nat → Nat → Int32) → (Nat → Nat → Int64) → Prop
 | 0, _, _, _, _ => False
 | n0 + 1, x1, mi, ma, ml =>
 (((nI 6) ≤ x1 → (∃ n1 : Nat, (w_X6_counts_27 post n1 (nI 0) mi ma ml))) ∧ (¬ (nI 6) ≤ x1 → (vp_in x1 6 ∧ ∀ ma_19 : Nat → Nat → Int32, ma_19 = mup ma 31 (x1).toNatClampNeg (nI 0) → (∀ z_20 : Int32, z_20 = x1 + (nI 1) → (w_X6_counts_6 post n0 z_20 mi ma_19 ml)))))
def w_X6_counts (post : (Nat → Int32) → (Nat → Nat → Int32) → (Nat → Nat → Int64) → Prop) (mi : Nat → Int32) (ma : Nat → Nat → Int32) (ml : Nat → Nat → Int64) : Prop :=
 (w_X6_smooths (fun (mi_21 : Nat → Int32) (ma_22 : Nat → Nat → Int32) (ml_23 : Nat → Nat → Int64) => (∃ n1 : Nat, (w_X6_counts_6 post n1 (nI 0) mi_21 ma_22 ml_23))) mi ma ml)
theorem b_X6_counts_27 {post : (Nat → Int32) → (Nat → Nat → Int32) → (Nat → Nat → Int64) → Prop}     (hb : mOK b)   : ∀ (n0 : Nat) (x1 : Int32) (mi : Nat → Int32) (ma : Nat → Nat → Int32) (ml : Nat → Nat → Int64), w_X6_counts_27 post n0 x1 mi ma ml → VV l E X cX6_counts RX6 "counts" 2 r_X6_counts none (vpv (fun (h' : AH) => ∃ (mi' : Nat → Int32) (ma' : Nat → Nat → Int32) (ml' : Nat → Nat → Int64), h' = (mH b mi' ma' ml') ∧ post mi' ma' ml')) (mH b mi ma ml) 0 0 27 [(0, va_rf (some (b 0))), (1, .int x1)] [] := by
  intro n0
  induction n0 with
  | zero =>
    intro x1 mi ma ml hw
    exact hw.elim
  | succ n0 ih =>
    intro x1 mi ma ml hw
    refine v_iload_n (q := 1) dX6_counts_27 rfl rfl ?_
    refine v_aload_n (q := 0) dX6_counts_28 rfl rfl ?_
    refine vm_get hb 2 (Nat.le_of_ble_eq_true rfl) q1616 rfl dX6_counts_29 rfl ?_
    refine v_sipush dX6_counts_32 sp_162 ?_
    obtain ⟨hi_1, hw⟩ := hw
    refine v_iald dX6_counts_35 (mH_ar2 hb) hi_1 ?_
    obtain ⟨hw_4, hw_5⟩ := hw
    refine v_icmp_ge (tgt := 59) dX6_counts_36 (by decide) (fun c_2 => ?_) (fun c_3 => ?_)
    · have hw := hw_4 c_2
      exact v_vret dX6_counts_59 rfl ⟨rfl, _, _, _, rfl, hw⟩
    · have hw := hw_5 c_3
      refine v_aload_n (q := 0) dX6_counts_39 rfl rfl ?_
      refine vm_get hb 31 (Nat.le_of_ble_eq_true rfl) q1645 rfl dX6_counts_40 rfl ?_
      refine v_aload_n (q := 0) dX6_counts_43 rfl rfl ?_
      refine v_iload_n (q := 1) dX6_counts_44 rfl rfl ?_
      refine v_callV q1919 q1921 qs81 q113 q1922 (ci := 7) rfl (mH_obj hb) n_X6_whoseIs ⟨Nat.le_of_ble_eq_true rfl, Nat.le_of_ble_eq_true rfl⟩ [.int x1] [va_rf (some (b 31))] (met_X6_whoseIs hb hw) rfl (by simp only [List.map_cons, List.map_nil, List.sum_cons, List.sum_nil, v_rf1, v_cI, v_cJ]; decide) ⟨Nat.le_refl _, Nat.le_refl _⟩ dX6_counts_45 rfl (v_ki (fun z_6 h1 hv => ?_))
      clear hw
      obtain ⟨mi_7, ma_8, rfl, hw⟩ := hv
      refine v_dup2 dX6_counts_48 rfl (v_rf1 _) ?_
      obtain ⟨hi_9, hw⟩ := hw
      refine v_iald dX6_counts_49 (mH_ar31 hb) hi_9 ?_
      refine v_iconst dX6_counts_50 ic_1 ?_
      refine v_iadd dX6_counts_51 ?_
      obtain ⟨hi_10, hw⟩ := hw
      obtain ⟨ma_11, ema_11⟩ : ∃ z9 : Nat → Nat → Int32, z9 = mup ma_8 31 (z_6).toNatClampNeg ((ma_8 31 (z_6).toNatClampNeg) + (nI 1)) := ⟨_, rfl⟩
      replace hw := hw ma_11 ema_11
      refine v_iast dX6_counts_52 (mH_ar31 hb) hi_10 ?_
      refine v_heap (h' := mH b mi_7 ma_11 ml) (by rw [ema_11]; exact mH_st31 hb) ?_
      obtain ⟨z_12, e_12⟩ : ∃ z9 : Int32, z9 = x1 + (nI 1) := ⟨_, rfl⟩
      replace hw := hw z_12 e_12
      refine v_iinc (q := 1) (v := z_12) (lv1 := [(1, .int z_12), (0, va_rf (some (b 0)))]) dX6_counts_53 rfl (by rw [e_12, ic_1]) (Nat.le_of_ble_eq_true rfl) rfl ?_
      refine v_goto (tgt := 27) dX6_counts_56 (by decide) ?_
      refine v_sub [1, 0] rfl ?_
      exact ih z_12 mi_7 ma_11 ml hw
theorem b_X6_counts_6 {post : (Nat → Int32) → (Nat → Nat → Int32) → (Nat → Nat → Int64) → Prop}     (hb : mOK b)   : ∀ (n0 : Nat) (x1 : Int32) (mi : Nat → Int32) (ma : Nat → Nat → Int32) (ml : Nat → Nat → Int64), w_X6_counts_6 post n0 x1 mi ma ml → VV l E X cX6_counts RX6 "counts" 2 r_X6_counts none (vpv (fun (h' : AH) => ∃ (mi' : Nat → Int32) (ma' : Nat → Nat → Int32) (ml' : Nat → Nat → Int64), h' = (mH b mi' ma' ml') ∧ post mi' ma' ml')) (mH b mi ma ml) 0 0 6 [(0, va_rf (some (b 0))), (1, .int x1)] [] := by
  intro n0
  induction n0 with
  | zero =>
    intro x1 mi ma ml hw
    exact hw.elim
  | succ n0 ih =>
    intro x1 mi ma ml hw
    refine v_iload_n (q := 1) dX6_counts_6 rfl rfl ?_
    refine v_bipush dX6_counts_7 bp_6 ?_
    obtain ⟨hw_15, hw_16⟩ := hw
    refine v_icmp_ge (tgt := 25) dX6_counts_9 (by decide) (fun c_13 => ?_) (fun c_14 => ?_)
    · have hw := hw_15 c_13
      refine v_iconst dX6_counts_25 ic_0 ?_
      refine v_istore_n (lv1 := [(1, .int (nI 0)), (0, va_rf (some (b 0)))]) dX6_counts_26 rfl (Nat.le_of_ble_eq_true rfl) rfl ?_
      obtain ⟨n_17, hw⟩ := hw
      refine v_sub [1, 0] rfl ?_
      exact b_X6_counts_27 hb n_17 (nI 0) mi ma ml hw
    · have hw := hw_16 c_14
      refine v_aload_n (q := 0) dX6_counts_12 rfl rfl ?_
      refine vm_get hb 31 (Nat.le_of_ble_eq_true rfl) q1645 rfl dX6_counts_13 rfl ?_
      refine v_iload_n (q := 1) dX6_counts_16 rfl rfl ?_
      refine v_iconst dX6_counts_17 ic_0 ?_
      obtain ⟨hi_18, hw⟩ := hw
      obtain ⟨ma_19, ema_19⟩ : ∃ z9 : Nat → Nat → Int32, z9 = mup ma 31 (x1).toNatClampNeg (nI 0) := ⟨_, rfl⟩
      replace hw := hw ma_19 ema_19
      refine v_iast dX6_counts_18 (mH_ar31 hb) hi_18 ?_
      refine v_heap (h' := mH b mi ma_19 ml) (by rw [ema_19]; exact mH_st31 hb) ?_
      obtain ⟨z_20, e_20⟩ : ∃ z9 : Int32, z9 = x1 + (nI 1) := ⟨_, rfl⟩
      replace hw := hw z_20 e_20
      refine v_iinc (q := 1) (v := z_20) (lv1 := [(1, .int z_20), (0, va_rf (some (b 0)))]) dX6_counts_19 rfl (by rw [e_20, ic_1]) (Nat.le_of_ble_eq_true rfl) rfl ?_
      refine v_goto (tgt := 6) dX6_counts_22 (by decide) ?_
      refine v_sub [1, 0] rfl ?_
      exact ih z_20 mi ma_19 ml hw
theorem e_X6_counts {post : (Nat → Int32) → (Nat → Nat → Int32) → (Nat → Nat → Int64) → Prop}   {mi : Nat → Int32} {ma : Nat → Nat → Int32} {ml : Nat → Nat → Int64} (hb : mOK b)  (hw : w_X6_counts post  mi ma ml) : VV l E X cX6_counts RX6 "counts" 2 r_X6_counts none (vpv (fun (h' : AH) => ∃ (mi' : Nat → Int32) (ma' : Nat → Nat → Int32) (ml' : Nat → Nat → Int64), h' = (mH b mi' ma' ml') ∧ post mi' ma' ml')) (mH b mi ma ml) 0 0 0 [(0, va_rf (some (b 0)))] [] := by
  refine v_aload_n (q := 0) dX6_counts_0 rfl rfl ?_
  refine v_callV q1911 q1913 qs79 q113 q1914 (ci := 7) rfl (mH_obj hb) n_X6_smooths ⟨Nat.le_of_ble_eq_true rfl, Nat.le_of_ble_eq_true rfl⟩ [] [] (met_X6_smooths hb hw) rfl (Nat.zero_le _) ⟨Nat.le_refl _, Nat.le_refl _⟩ dX6_counts_1 rfl (v_kv (fun h1 hv => ?_))
  clear hw
  obtain ⟨mi_21, ma_22, ml_23, rfl, hw⟩ := hv
  refine v_iconst dX6_counts_4 ic_0 ?_
  refine v_istore_n (lv1 := [(1, .int (nI 0)), (0, va_rf (some (b 0)))]) dX6_counts_5 rfl (Nat.le_of_ble_eq_true rfl) rfl ?_
  obtain ⟨n_24, hw⟩ := hw
  refine v_sub [1, 0] rfl ?_
  exact b_X6_counts_6 hb n_24 (nI 0) mi_21 ma_22 ml_23 hw
theorem met_X6_counts {post : (Nat → Int32) → (Nat → Nat → Int32) → (Nat → Nat → Int64) → Prop}   {mi : Nat → Int32} {ma : Nat → Nat → Int32} {ml : Nat → Nat → Int64} (hb : mOK b)  (hw : w_X6_counts post  mi ma ml) : Mt l E yX6_counts (ws_ yX6_counts cX6_counts 2 none) r_X6_counts [va_rf (some (b 0))] (mH b mi ma ml) (vpv (fun (h' : AH) => ∃ (mi' : Nat → Int32) (ma' : Nat → Nat → Int32) (ml' : Nat → Nat → Int64), h' = (mH b mi' ma' ml') ∧ post mi' ma' ml')) := v_entry (by decide +kernel) (Nat.le_of_ble_eq_true rfl) rfl (fun _ => e_X6_counts hb hw)
/-! X6_share -/
abbrev r_X6_share : Room := { frames := 7, cells := 0, slots := 0, locals := 170 }
theorem n_X6_share : vdn yX6_share 2 := ⟨by decide +kernel, by decide +kernel, by decide +kernel⟩
def w_X6_share_27 (post : (Int32) → (Nat → Int32) → (Nat → Nat → Int32) → (Nat → Nat → Int64) → Prop) (x1 : Int32) (x2 : Int32) (mi : Nat → Int32) (ma : Nat → Nat → Int32) (ml : Nat → Nat → Int64) : Prop :=
 (w_X6_no (fun (z_1 : Int32) (ma_2 : Nat → Nat → Int32) => (post z_1 mi ma_2 ml)) (-2) mi ma ml)
def w_X6_share (post : (Int32) → (Nat → Int32) → (Nat → Nat → Int32) → (Nat → Nat → Int64) → Prop) (x1 : Int32) (x2 : Int32) (mi : Nat → Int32) (ma : Nat → Nat → Int32) (ml : Nat → Nat → Int64) : Prop :=
 (∀ mi_3 : Nat → Int32, mi_3 = upd mi 0 (nI 0) → (w_X6_within (fun (z_4 : Int32) => ((z_4 = 0 → (w_X6_share_27 post x1 x2 mi_3 ma ml)) ∧ (¬ z_4 = 0 → (w_X6_within (fun (z_9 : Int32) => ((¬ z_9 = 0 → (vp_in (nI 162) 3372 ∧ ((¬ (ma 2 ((nI 162)).toNatClampNeg) = 0 → (w_X6_counts (fun (mi_19 : Nat → Int32) (ma_20 : Nat → Nat → Int32) (ml_21 : Nat → Nat → Int64) => ((¬ x2 = 0 → (vp_in x1 6 ∧ (vp_in (nI 162) 3372 ∧ (¬ (ma_20 2 ((nI 162)).toNatClampNeg) = 0 ∧ (post (((nI 1000) * (ma_20 31 (x1).toNatClampNeg)) / (ma_20 2 ((nI 162)).toNatClampNeg)) mi_19 ma_20 ml_21))))) ∧ (x2 = 0 → (vp_in x1 6 ∧ (post (ma_20 31 (x1).toNatClampNeg) mi_19 ma_20 ml_21))))) mi_3 ma ml)) ∧ ((ma 2 ((nI 162)).toNatClampNeg) = 0 → (w_X6_no (fun (z_30 : Int32) (ma_31 : Nat → Nat → Int32) => (post z_30 mi_3 ma_31 ml)) (-5) mi_3 ma ml))))) ∧ (z_9 = 0 → (w_X6_share_27 post x1 x2 mi_3 ma ml)))) ((x2).toInt64) (lN 0) (lN 1))))) ((x1).toInt64) (lN 0) (lN 5)))
theorem b_X6_share_27 {post : (Int32) → (Nat → Int32) → (Nat → Nat → Int32) → (Nat → Nat → Int64) → Prop}   {x1 : Int32} {x2 : Int32}  (hb : mOK b)   (mi : Nat → Int32) (ma : Nat → Nat → Int32) (ml : Nat → Nat → Int64) (hw : w_X6_share_27 post x1 x2 mi ma ml) : VV l E X cX6_share RX6 "share" 3 r_X6_share (some .int) (vpi (fun (r : Int32) (h' : AH) => ∃ (mi' : Nat → Int32) (ma' : Nat → Nat → Int32) (ml' : Nat → Nat → Int64), h' = (mH b mi' ma' ml') ∧ post r mi' ma' ml')) (mH b mi ma ml) 0 0 27 [(0, va_rf (some (b 0))), (1, .int x1), (2, .int x2)] [] := by
  refine v_aload_n (q := 0) dX6_share_27 rfl rfl ?_
  refine v_bipush dX6_share_28 bp_m2 ?_
  refine v_callV q1737 q1739 qs53 q113 q1740 (ci := 7) rfl (mH_obj hb) n_X6_no ⟨Nat.le_of_ble_eq_true rfl, Nat.le_of_ble_eq_true rfl⟩ [.int (-2)] [] (met_X6_no hb hw) rfl (Nat.zero_le _) ⟨Nat.le_refl _, Nat.le_refl _⟩ dX6_share_30 rfl (v_ki (fun z_1 h1 hv => ?_))
  clear hw
  obtain ⟨ma_2, rfl, hw⟩ := hv
  exact v_iret dX6_share_33 rfl ⟨_, rfl, _, _, _, rfl, hw⟩
theorem e_X6_share {post : (Int32) → (Nat → Int32) → (Nat → Nat → Int32) → (Nat → Nat → Int64) → Prop}   {x1 : Int32} {x2 : Int32} {mi : Nat → Int32} {ma : Nat → Nat → Int32} {ml : Nat → Nat → Int64} (hb : mOK b)  (hw : w_X6_share post  x1 x2 mi ma ml) : VV l E X cX6_share RX6 "share" 3 r_X6_share (some .int) (vpi (fun (r : Int32) (h' : AH) => ∃ (mi' : Nat → Int32) (ma' : Nat → Nat → Int32) (ml' : Nat → Nat → Int64), h' = (mH b mi' ma' ml') ∧ post r mi' ma' ml')) (mH b mi ma ml) 0 0 0 [(0, va_rf (some (b 0))), (1, .int x1), (2, .int x2)] [] := by
  refine v_aload_n (q := 0) dX6_share_0 rfl rfl ?_
  refine v_iconst dX6_share_1 ic_0 ?_
  obtain ⟨mi_3, emi_3⟩ : ∃ z9 : Nat → Int32, z9 = upd mi 0 (nI 0) := ⟨_, rfl⟩
  replace hw := hw mi_3 emi_3
  refine vm_put hb 0 (Nat.le_of_ble_eq_true rfl) q1614 rfl rfl rfl dX6_share_2 emi_3 rfl ?_
  refine v_iload_n (q := 1) dX6_share_5 rfl rfl ?_
  refine v_i2l dX6_share_6 ?_
  refine v_lconst (v := lN 0) dX6_share_7 rfl ?_
  refine v_ldc2 (v := (lN 5)) dX6_share_8 q1744 ?_
  refine v_callS q1734 q1735 q113 q1736 n_X6_within ⟨Nat.le_of_ble_eq_true rfl, Nat.le_of_ble_eq_true rfl⟩ [.long ((x1).toInt64), .long (lN 0), .long (lN 5)] [] (met_X6_within hw) rfl (Nat.zero_le _) ⟨Nat.le_refl _, Nat.le_refl _⟩ dX6_share_11 rfl (v_ki (fun z_4 h1 hv => ?_))
  clear hw
  obtain ⟨e9, hw⟩ := hv
  refine v_heap e9 ?_
  clear e9
  obtain ⟨hw_7, hw_8⟩ := hw
  refine v_if_eq (tgt := 27) dX6_share_14 (by decide) (fun c_5 => ?_) (fun c_6 => ?_)
  · have hw := hw_7 c_5
    refine v_sub [0, 1, 2] rfl ?_
    exact b_X6_share_27 hb mi_3 ma ml hw
  · have hw := hw_8 c_6
    refine v_iload_n (q := 2) dX6_share_17 rfl rfl ?_
    refine v_i2l dX6_share_18 ?_
    refine v_lconst (v := lN 0) dX6_share_19 rfl ?_
    refine v_lconst (v := lN 1) dX6_share_20 rfl ?_
    refine v_callS q1734 q1735 q113 q1736 n_X6_within ⟨Nat.le_of_ble_eq_true rfl, Nat.le_of_ble_eq_true rfl⟩ [.long ((x2).toInt64), .long (lN 0), .long (lN 1)] [] (met_X6_within hw) rfl (Nat.zero_le _) ⟨Nat.le_refl _, Nat.le_refl _⟩ dX6_share_21 rfl (v_ki (fun z_9 h1 hv => ?_))
    clear hw
    obtain ⟨e9, hw⟩ := hv
    refine v_heap e9 ?_
    clear e9
    obtain ⟨hw_12, hw_13⟩ := hw
    refine v_if_ne (tgt := 34) dX6_share_24 (by decide) (fun c_10 => ?_) (fun c_11 => ?_)
    · have hw := hw_12 c_10
      refine v_aload_n (q := 0) dX6_share_34 rfl rfl ?_
      refine vm_get hb 2 (Nat.le_of_ble_eq_true rfl) q1616 rfl dX6_share_35 rfl ?_
      refine v_sipush dX6_share_38 sp_162 ?_
      obtain ⟨hi_14, hw⟩ := hw
      refine v_iald dX6_share_41 (mH_ar2 hb) hi_14 ?_
      obtain ⟨hw_17, hw_18⟩ := hw
      refine v_if_ne (tgt := 52) dX6_share_42 (by decide) (fun c_15 => ?_) (fun c_16 => ?_)
      · have hw := hw_17 c_15
        refine v_aload_n (q := 0) dX6_share_52 rfl rfl ?_
        refine v_callV q1947 q1949 qs86 q113 q1950 (ci := 7) rfl (mH_obj hb) n_X6_counts ⟨Nat.le_of_ble_eq_true rfl, Nat.le_of_ble_eq_true rfl⟩ [] [] (met_X6_counts hb hw) rfl (Nat.zero_le _) ⟨Nat.le_refl _, Nat.le_refl _⟩ dX6_share_53 rfl (v_kv (fun h1 hv => ?_))
        clear hw
        obtain ⟨mi_19, ma_20, ml_21, rfl, hw⟩ := hv
        refine v_iload_n (q := 2) dX6_share_56 rfl rfl ?_
        obtain ⟨hw_24, hw_25⟩ := hw
        refine v_if_ne (tgt := 69) dX6_share_57 (by decide) (fun c_22 => ?_) (fun c_23 => ?_)
        · have hw := hw_24 c_22
          refine v_sipush dX6_share_69 sp_1000 ?_
          refine v_aload_n (q := 0) dX6_share_72 rfl rfl ?_
          refine vm_get hb 31 (Nat.le_of_ble_eq_true rfl) q1645 rfl dX6_share_73 rfl ?_
          refine v_iload_n (q := 1) dX6_share_76 rfl rfl ?_
          obtain ⟨hi_26, hw⟩ := hw
          refine v_iald dX6_share_77 (mH_ar31 hb) hi_26 ?_
          refine v_imul dX6_share_78 ?_
          refine v_aload_n (q := 0) dX6_share_79 rfl rfl ?_
          refine vm_get hb 2 (Nat.le_of_ble_eq_true rfl) q1616 rfl dX6_share_80 rfl ?_
          refine v_sipush dX6_share_83 sp_162 ?_
          obtain ⟨hi_27, hw⟩ := hw
          refine v_iald dX6_share_86 (mH_ar2 hb) hi_27 ?_
          obtain ⟨hz_28, hw⟩ := hw
          refine v_idiv dX6_share_87 hz_28 ?_
          exact v_iret dX6_share_88 rfl ⟨_, rfl, _, _, _, rfl, hw⟩
        · have hw := hw_25 c_23
          refine v_aload_n (q := 0) dX6_share_60 rfl rfl ?_
          refine vm_get hb 31 (Nat.le_of_ble_eq_true rfl) q1645 rfl dX6_share_61 rfl ?_
          refine v_iload_n (q := 1) dX6_share_64 rfl rfl ?_
          obtain ⟨hi_29, hw⟩ := hw
          refine v_iald dX6_share_65 (mH_ar31 hb) hi_29 ?_
          refine v_goto (tgt := 88) dX6_share_66 (by decide) ?_
          exact v_iret dX6_share_88 rfl ⟨_, rfl, _, _, _, rfl, hw⟩
      · have hw := hw_18 c_16
        refine v_aload_n (q := 0) dX6_share_45 rfl rfl ?_
        refine v_bipush dX6_share_46 bp_m5 ?_
        refine v_callV q1737 q1739 qs53 q113 q1740 (ci := 7) rfl (mH_obj hb) n_X6_no ⟨Nat.le_of_ble_eq_true rfl, Nat.le_of_ble_eq_true rfl⟩ [.int (-5)] [] (met_X6_no hb hw) rfl (Nat.zero_le _) ⟨Nat.le_refl _, Nat.le_refl _⟩ dX6_share_48 rfl (v_ki (fun z_30 h1 hv => ?_))
        clear hw
        obtain ⟨ma_31, rfl, hw⟩ := hv
        exact v_iret dX6_share_51 rfl ⟨_, rfl, _, _, _, rfl, hw⟩
    · have hw := hw_13 c_11
      refine v_sub [0, 1, 2] rfl ?_
      exact b_X6_share_27 hb mi_3 ma ml hw
theorem met_X6_share {post : (Int32) → (Nat → Int32) → (Nat → Nat → Int32) → (Nat → Nat → Int64) → Prop}   {x1 : Int32} {x2 : Int32} {mi : Nat → Int32} {ma : Nat → Nat → Int32} {ml : Nat → Nat → Int64} (hb : mOK b)  (hw : w_X6_share post  x1 x2 mi ma ml) : Mt l E yX6_share (ws_ yX6_share cX6_share 3 (some .int)) r_X6_share [va_rf (some (b 0)), .int x1, .int x2] (mH b mi ma ml) (vpi (fun (r : Int32) (h' : AH) => ∃ (mi' : Nat → Int32) (ma' : Nat → Nat → Int32) (ml' : Nat → Nat → Int64), h' = (mH b mi' ma' ml') ∧ post r mi' ma' ml')) := v_entry (by decide +kernel) (Nat.le_of_ble_eq_true rfl) rfl (fun _ => e_X6_share hb hw)
/-! X6_span -/
abbrev r_X6_span : Room := { frames := 7, cells := 0, slots := 0, locals := 170 }
theorem n_X6_span : vdn yX6_span 1 := ⟨by decide +kernel, by decide +kernel, by decide +kernel⟩
def w_X6_span_82 (post : (Int32) → (Nat → Int32) → (Nat → Nat → Int32) → (Nat → Nat → Int64) → Prop) (x1 : Int32) (s0 : Int32) (s1 : Int32) (s2 : Int32) (mi : Nat → Int32) (ma : Nat → Nat → Int32) (ml : Nat → Nat → Int64) : Prop :=
 (vp_in (nI 162) 3372 ∧ (¬ (ma 2 ((nI 162)).toNatClampNeg) = 0 ∧ (post ((s2 * (s1 + s0)) / (ma 2 ((nI 162)).toNatClampNeg)) mi ma ml)))
def w_X6_span (post : (Int32) → (Nat → Int32) → (Nat → Nat → Int32) → (Nat → Nat → Int64) → Prop) (x1 : Int32) (mi : Nat → Int32) (ma : Nat → Nat → Int32) (ml : Nat → Nat → Int64) : Prop :=
 (∀ mi_3 : Nat → Int32, mi_3 = upd mi 0 (nI 0) → (w_X6_within (fun (z_4 : Int32) => ((¬ z_4 = 0 → (vp_in (nI 162) 3372 ∧ ((¬ (ma 2 ((nI 162)).toNatClampNeg) = 0 → (w_X6_counts (fun (mi_14 : Nat → Int32) (ma_15 : Nat → Nat → Int32) (ml_16 : Nat → Nat → Int64) => (vp_in (nI 0) 6 ∧ (vp_in (nI 1) 6 ∧ (vp_in (nI 2) 6 ∧ ((¬ x1 = (nI 1) → (w_X6_span_82 post x1 (nI 0) (((ma_15 31 ((nI 0)).toNatClampNeg) + (ma_15 31 ((nI 1)).toNatClampNeg)) + (ma_15 31 ((nI 2)).toNatClampNeg)) (nI 1000) mi_14 ma_15 ml_16)) ∧ (x1 = (nI 1) → (vp_in (nI 4) 6 ∧ (w_X6_span_82 post x1 (ma_15 31 ((nI 4)).toNatClampNeg) (((ma_15 31 ((nI 0)).toNatClampNeg) + (ma_15 31 ((nI 1)).toNatClampNeg)) + (ma_15 31 ((nI 2)).toNatClampNeg)) (nI 1000) mi_14 ma_15 ml_16)))))))) mi_3 ma ml)) ∧ ((ma 2 ((nI 162)).toNatClampNeg) = 0 → (w_X6_no (fun (z_25 : Int32) (ma_26 : Nat → Nat → Int32) => (post z_25 mi_3 ma_26 ml)) (-5) mi_3 ma ml))))) ∧ (z_4 = 0 → (w_X6_no (fun (z_27 : Int32) (ma_28 : Nat → Nat → Int32) => (post z_27 mi_3 ma_28 ml)) (-2) mi_3 ma ml)))) ((x1).toInt64) (lN 0) (lN 1)))
theorem b_X6_span_82 {post : (Int32) → (Nat → Int32) → (Nat → Nat → Int32) → (Nat → Nat → Int64) → Prop}   {x1 : Int32}  (hb : mOK b)   (s0 : Int32) (s1 : Int32) (s2 : Int32) (mi : Nat → Int32) (ma : Nat → Nat → Int32) (ml : Nat → Nat → Int64) (hw : w_X6_span_82 post x1 s0 s1 s2 mi ma ml) : VV l E X cX6_span RX6 "span" 2 r_X6_span (some .int) (vpi (fun (r : Int32) (h' : AH) => ∃ (mi' : Nat → Int32) (ma' : Nat → Nat → Int32) (ml' : Nat → Nat → Int64), h' = (mH b mi' ma' ml') ∧ post r mi' ma' ml')) (mH b mi ma ml) 0 0 82 [(0, va_rf (some (b 0))), (1, .int x1)] [.int s0, .int s1, .int s2] := by
  refine v_iadd dX6_span_82 ?_
  refine v_imul dX6_span_83 ?_
  refine v_aload_n (q := 0) dX6_span_84 rfl rfl ?_
  refine vm_get hb 2 (Nat.le_of_ble_eq_true rfl) q1616 rfl dX6_span_85 rfl ?_
  refine v_sipush dX6_span_88 sp_162 ?_
  obtain ⟨hi_1, hw⟩ := hw
  refine v_iald dX6_span_91 (mH_ar2 hb) hi_1 ?_
  obtain ⟨hz_2, hw⟩ := hw
  refine v_idiv dX6_span_92 hz_2 ?_
  exact v_iret dX6_span_93 rfl ⟨_, rfl, _, _, _, rfl, hw⟩
theorem e_X6_span {post : (Int32) → (Nat → Int32) → (Nat → Nat → Int32) → (Nat → Nat → Int64) → Prop}   {x1 : Int32} {mi : Nat → Int32} {ma : Nat → Nat → Int32} {ml : Nat → Nat → Int64} (hb : mOK b)  (hw : w_X6_span post  x1 mi ma ml) : VV l E X cX6_span RX6 "span" 2 r_X6_span (some .int) (vpi (fun (r : Int32) (h' : AH) => ∃ (mi' : Nat → Int32) (ma' : Nat → Nat → Int32) (ml' : Nat → Nat → Int64), h' = (mH b mi' ma' ml') ∧ post r mi' ma' ml')) (mH b mi ma ml) 0 0 0 [(0, va_rf (some (b 0))), (1, .int x1)] [] := by
  refine v_aload_n (q := 0) dX6_span_0 rfl rfl ?_
  refine v_iconst dX6_span_1 ic_0 ?_
  obtain ⟨mi_3, emi_3⟩ : ∃ z9 : Nat → Int32, z9 = upd mi 0 (nI 0) := ⟨_, rfl⟩
  replace hw := hw mi_3 emi_3
  refine vm_put hb 0 (Nat.le_of_ble_eq_true rfl) q1614 rfl rfl rfl dX6_span_2 emi_3 rfl ?_
  refine v_iload_n (q := 1) dX6_span_5 rfl rfl ?_
  refine v_i2l dX6_span_6 ?_
  refine v_lconst (v := lN 0) dX6_span_7 rfl ?_
  refine v_lconst (v := lN 1) dX6_span_8 rfl ?_
  refine v_callS q1734 q1735 q113 q1736 n_X6_within ⟨Nat.le_of_ble_eq_true rfl, Nat.le_of_ble_eq_true rfl⟩ [.long ((x1).toInt64), .long (lN 0), .long (lN 1)] [] (met_X6_within hw) rfl (Nat.zero_le _) ⟨Nat.le_refl _, Nat.le_refl _⟩ dX6_span_9 rfl (v_ki (fun z_4 h1 hv => ?_))
  clear hw
  obtain ⟨e9, hw⟩ := hv
  refine v_heap e9 ?_
  clear e9
  obtain ⟨hw_7, hw_8⟩ := hw
  refine v_if_ne (tgt := 22) dX6_span_12 (by decide) (fun c_5 => ?_) (fun c_6 => ?_)
  · have hw := hw_7 c_5
    refine v_aload_n (q := 0) dX6_span_22 rfl rfl ?_
    refine vm_get hb 2 (Nat.le_of_ble_eq_true rfl) q1616 rfl dX6_span_23 rfl ?_
    refine v_sipush dX6_span_26 sp_162 ?_
    obtain ⟨hi_9, hw⟩ := hw
    refine v_iald dX6_span_29 (mH_ar2 hb) hi_9 ?_
    obtain ⟨hw_12, hw_13⟩ := hw
    refine v_if_ne (tgt := 40) dX6_span_30 (by decide) (fun c_10 => ?_) (fun c_11 => ?_)
    · have hw := hw_12 c_10
      refine v_aload_n (q := 0) dX6_span_40 rfl rfl ?_
      refine v_callV q1947 q1949 qs86 q113 q1950 (ci := 7) rfl (mH_obj hb) n_X6_counts ⟨Nat.le_of_ble_eq_true rfl, Nat.le_of_ble_eq_true rfl⟩ [] [] (met_X6_counts hb hw) rfl (Nat.zero_le _) ⟨Nat.le_refl _, Nat.le_refl _⟩ dX6_span_41 rfl (v_kv (fun h1 hv => ?_))
      clear hw
      obtain ⟨mi_14, ma_15, ml_16, rfl, hw⟩ := hv
      refine v_sipush dX6_span_44 sp_1000 ?_
      refine v_aload_n (q := 0) dX6_span_47 rfl rfl ?_
      refine vm_get hb 31 (Nat.le_of_ble_eq_true rfl) q1645 rfl dX6_span_48 rfl ?_
      refine v_iconst dX6_span_51 ic_0 ?_
      obtain ⟨hi_17, hw⟩ := hw
      refine v_iald dX6_span_52 (mH_ar31 hb) hi_17 ?_
      refine v_aload_n (q := 0) dX6_span_53 rfl rfl ?_
      refine vm_get hb 31 (Nat.le_of_ble_eq_true rfl) q1645 rfl dX6_span_54 rfl ?_
      refine v_iconst dX6_span_57 ic_1 ?_
      obtain ⟨hi_18, hw⟩ := hw
      refine v_iald dX6_span_58 (mH_ar31 hb) hi_18 ?_
      refine v_iadd dX6_span_59 ?_
      refine v_aload_n (q := 0) dX6_span_60 rfl rfl ?_
      refine vm_get hb 31 (Nat.le_of_ble_eq_true rfl) q1645 rfl dX6_span_61 rfl ?_
      refine v_iconst dX6_span_64 ic_2 ?_
      obtain ⟨hi_19, hw⟩ := hw
      refine v_iald dX6_span_65 (mH_ar31 hb) hi_19 ?_
      refine v_iadd dX6_span_66 ?_
      refine v_iload_n (q := 1) dX6_span_67 rfl rfl ?_
      refine v_iconst dX6_span_68 ic_1 ?_
      obtain ⟨hw_22, hw_23⟩ := hw
      refine v_icmp_ne (tgt := 81) dX6_span_69 (by decide) (fun c_20 => ?_) (fun c_21 => ?_)
      · have hw := hw_22 c_20
        refine v_iconst dX6_span_81 ic_0 ?_
        refine v_sub [0, 1] rfl ?_
        exact b_X6_span_82 hb (nI 0) (((ma_15 31 ((nI 0)).toNatClampNeg) + (ma_15 31 ((nI 1)).toNatClampNeg)) + (ma_15 31 ((nI 2)).toNatClampNeg)) (nI 1000) mi_14 ma_15 ml_16 hw
      · have hw := hw_23 c_21
        refine v_aload_n (q := 0) dX6_span_72 rfl rfl ?_
        refine vm_get hb 31 (Nat.le_of_ble_eq_true rfl) q1645 rfl dX6_span_73 rfl ?_
        refine v_iconst dX6_span_76 ic_4 ?_
        obtain ⟨hi_24, hw⟩ := hw
        refine v_iald dX6_span_77 (mH_ar31 hb) hi_24 ?_
        refine v_goto (tgt := 82) dX6_span_78 (by decide) ?_
        refine v_sub [0, 1] rfl ?_
        exact b_X6_span_82 hb (ma_15 31 ((nI 4)).toNatClampNeg) (((ma_15 31 ((nI 0)).toNatClampNeg) + (ma_15 31 ((nI 1)).toNatClampNeg)) + (ma_15 31 ((nI 2)).toNatClampNeg)) (nI 1000) mi_14 ma_15 ml_16 hw
    · have hw := hw_13 c_11
      refine v_aload_n (q := 0) dX6_span_33 rfl rfl ?_
      refine v_bipush dX6_span_34 bp_m5 ?_
      refine v_callV q1737 q1739 qs53 q113 q1740 (ci := 7) rfl (mH_obj hb) n_X6_no ⟨Nat.le_of_ble_eq_true rfl, Nat.le_of_ble_eq_true rfl⟩ [.int (-5)] [] (met_X6_no hb hw) rfl (Nat.zero_le _) ⟨Nat.le_refl _, Nat.le_refl _⟩ dX6_span_36 rfl (v_ki (fun z_25 h1 hv => ?_))
      clear hw
      obtain ⟨ma_26, rfl, hw⟩ := hv
      exact v_iret dX6_span_39 rfl ⟨_, rfl, _, _, _, rfl, hw⟩
  · have hw := hw_8 c_6
    refine v_aload_n (q := 0) dX6_span_15 rfl rfl ?_
    refine v_bipush dX6_span_16 bp_m2 ?_
    refine v_callV q1737 q1739 qs53 q113 q1740 (ci := 7) rfl (mH_obj hb) n_X6_no ⟨Nat.le_of_ble_eq_true rfl, Nat.le_of_ble_eq_true rfl⟩ [.int (-2)] [] (met_X6_no hb hw) rfl (Nat.zero_le _) ⟨Nat.le_refl _, Nat.le_refl _⟩ dX6_span_18 rfl (v_ki (fun z_27 h1 hv => ?_))
    clear hw
    obtain ⟨ma_28, rfl, hw⟩ := hv
    exact v_iret dX6_span_21 rfl ⟨_, rfl, _, _, _, rfl, hw⟩
theorem met_X6_span {post : (Int32) → (Nat → Int32) → (Nat → Nat → Int32) → (Nat → Nat → Int64) → Prop}   {x1 : Int32} {mi : Nat → Int32} {ma : Nat → Nat → Int32} {ml : Nat → Nat → Int64} (hb : mOK b)  (hw : w_X6_span post  x1 mi ma ml) : Mt l E yX6_span (ws_ yX6_span cX6_span 2 (some .int)) r_X6_span [va_rf (some (b 0)), .int x1] (mH b mi ma ml) (vpi (fun (r : Int32) (h' : AH) => ∃ (mi' : Nat → Int32) (ma' : Nat → Nat → Int32) (ml' : Nat → Nat → Int64), h' = (mH b mi' ma' ml') ∧ post r mi' ma' ml')) := v_entry (by decide +kernel) (Nat.le_of_ble_eq_true rfl) rfl (fun _ => e_X6_span hb hw)
/-! X6_meets -/
abbrev r_X6_meets : Room := { frames := 3, cells := 0, slots := 0, locals := 73 }
theorem n_X6_meets : vdn yX6_meets 2 := ⟨by decide +kernel, by decide +kernel, by decide +kernel⟩
def w_X6_meets_193 (post : (Nat → Int32) → (Nat → Nat → Int32) → Prop) (k12 : (Int32) → (Nat → Int32) → (Nat → Nat → Int32) → Prop) (k50 : (Int32) → (Int32) → (Int32) → (Nat → Int32) → (Nat → Nat → Int32) → Prop) (k123 : (Int32) → (Int32) → (Int32) → (Int32) → (Int32) → (Nat → Int32) → (Nat → Nat → Int32) → Prop) (x1 : Int32) (x2 : Int32) (ml : Nat → Nat → Int64) (x3 : Int32) (x4 : Int32) (x5 : Int32) (x6 : Int32) (x7 : Int32) (s0 : Int32) (s1 : Int32) (mi : Nat → Int32) (ma : Nat → Nat → Int32) : Prop :=
 (∀ mi_1 : Nat → Int32, mi_1 = upd mi 33 (s1 + s0) → (∀ z_2 : Int32, z_2 = x7 + (nI 1) → (k123 x3 x4 x5 x6 z_2 mi_1 ma)))
def w_X6_meets_171 (post : (Nat → Int32) → (Nat → Nat → Int32) → Prop) (k12 : (Int32) → (Nat → Int32) → (Nat → Nat → Int32) → Prop) (k50 : (Int32) → (Int32) → (Int32) → (Nat → Int32) → (Nat → Nat → Int32) → Prop) (k123 : (Int32) → (Int32) → (Int32) → (Int32) → (Int32) → (Nat → Int32) → (Nat → Nat → Int32) → Prop) (x1 : Int32) (x2 : Int32) (ml : Nat → Nat → Int64) (x3 : Int32) (x4 : Int32) (x5 : Int32) (x6 : Int32) (x7 : Int32) (s0 : Int32) (s2 : Int64) (s4 : Int32) (mi : Nat → Int32) (ma : Nat → Nat → Int32) : Prop :=
 (vp_in ((s0 + ((nI 12) * x5)) + x7) 2352 ∧ (w_X6_likeOf (fun (z_4 : Int32) (ma_5 : Nat → Nat → Int32) => ((z_4 < x1 → (w_X6_meets_193 post k12 k50 k123 x1 x2 ml x3 x4 x5 x6 x7 (nI 0) s4 mi ma_5)) ∧ (¬ z_4 < x1 → (w_X6_meets_193 post k12 k50 k123 x1 x2 ml x3 x4 x5 x6 x7 (nI 1) s4 mi ma_5)))) s2 (ml 3 (((s0 + ((nI 12) * x5)) + x7)).toNatClampNeg) mi ma ml))
def w_X6_meets_203 (post : (Nat → Int32) → (Nat → Nat → Int32) → Prop) (k12 : (Int32) → (Nat → Int32) → (Nat → Nat → Int32) → Prop) (k50 : (Int32) → (Int32) → (Int32) → (Nat → Int32) → (Nat → Nat → Int32) → Prop) (x1 : Int32) (x2 : Int32) (ml : Nat → Nat → Int64) (x3 : Int32) (x4 : Int32) (x5 : Int32) (mi : Nat → Int32) (ma : Nat → Nat → Int32) : Prop :=
 (∀ z_10 : Int32, z_10 = x5 + (nI 1) → (k50 x3 x4 z_10 mi ma))
def w_X6_meets_123 (post : (Nat → Int32) → (Nat → Nat → Int32) → Prop) (k12 : (Int32) → (Nat → Int32) → (Nat → Nat → Int32) → Prop) (k50 : (Int32) → (Int32) → (Int32) → (Nat → Int32) → (Nat → Nat → Int32) → Prop) (x1 : Int32) (x2 : Int32) (ml : Nat → Nat → Int64) : Nat → (Int32) → (Int32) → (Int32) → (Int32) → (Int32) → (Nat → Int32) → (Nat → Nat → Int32) → Prop
 | 0, _, _, _, _, _, _, _ => False
 | n0 + 1, x3, x4, x5, x6, x7, mi, ma =>
 ((x6 ≤ x7 → (w_X6_meets_203 post k12 k50 x1 x2 ml x3 x4 x5 mi ma)) ∧ (¬ x6 ≤ x7 → (∀ mi_15 : Nat → Int32, mi_15 = upd mi 32 ((mi 32) + (nI 1)) → (vp_in ((nI 480) + x3) 2352 ∧ ((x2 = 0 → (w_X6_meets_171 post k12 k50 (fun (q0 : Int32) (q1 : Int32) (q2 : Int32) (q3 : Int32) (q4 : Int32) (q5 : Nat → Int32) (q6 : Nat → Nat → Int32) => w_X6_meets_123 post k12 k50 x1 x2 ml n0 q0 q1 q2 q3 q4 q5 q6) x1 x2 ml x3 x4 x5 x6 x7 (nI 0) (ml 3 (((nI 480) + x3)).toNatClampNeg) (mi_15 33) mi_15 ma)) ∧ (¬ x2 = 0 → (w_X6_meets_171 post k12 k50 (fun (q0 : Int32) (q1 : Int32) (q2 : Int32) (q3 : Int32) (q4 : Int32) (q5 : Nat → Int32) (q6 : Nat → Nat → Int32) => w_X6_meets_123 post k12 k50 x1 x2 ml n0 q0 q1 q2 q3 q4 q5 q6) x1 x2 ml x3 x4 x5 x6 x7 (nI 540) (ml 3 (((nI 480) + x3)).toNatClampNeg) (mi_15 33) mi_15 ma)))))))
def w_X6_meets_118 (post : (Nat → Int32) → (Nat → Nat → Int32) → Prop) (k12 : (Int32) → (Nat → Int32) → (Nat → Nat → Int32) → Prop) (k50 : (Int32) → (Int32) → (Int32) → (Nat → Int32) → (Nat → Nat → Int32) → Prop) (x1 : Int32) (x2 : Int32) (ml : Nat → Nat → Int64) (x3 : Int32) (x4 : Int32) (x5 : Int32) (s0 : Int32) (mi : Nat → Int32) (ma : Nat → Nat → Int32) : Prop :=
 (∃ n1 : Nat, (w_X6_meets_123 post k12 k50 x1 x2 ml n1 x3 x4 x5 s0 (nI 0) mi ma))
def w_X6_meets_90 (post : (Nat → Int32) → (Nat → Nat → Int32) → Prop) (k12 : (Int32) → (Nat → Int32) → (Nat → Nat → Int32) → Prop) (k50 : (Int32) → (Int32) → (Int32) → (Nat → Int32) → (Nat → Nat → Int32) → Prop) (x1 : Int32) (x2 : Int32) (ml : Nat → Nat → Int64) (x3 : Int32) (x4 : Int32) (x5 : Int32) (mi : Nat → Int32) (ma : Nat → Nat → Int32) : Prop :=
 ((x2 = 0 → (vp_in ((nI 121) + x5) 3372 ∧ (w_X6_meets_118 post k12 k50 x1 x2 ml x3 x4 x5 (ma 2 (((nI 121) + x5)).toNatClampNeg) mi ma))) ∧ (¬ x2 = 0 → (vp_in ((nI 236) + x5) 3372 ∧ (w_X6_meets_118 post k12 k50 x1 x2 ml x3 x4 x5 (ma 2 (((nI 236) + x5)).toNatClampNeg) mi ma))))
def w_X6_meets_50 (post : (Nat → Int32) → (Nat → Nat → Int32) → Prop) (k12 : (Int32) → (Nat → Int32) → (Nat → Nat → Int32) → Prop) (x1 : Int32) (x2 : Int32) (ml : Nat → Nat → Int64) : Nat → (Int32) → (Int32) → (Int32) → (Nat → Int32) → (Nat → Nat → Int32) → Prop
 | 0, _, _, _, _, _ => False
 | n0 + 1, x3, x4, x5, mi, ma =>
 ((x4 ≤ x5 → (∀ z_32 : Int32, z_32 = x3 + (nI 1) → (k12 z_32 mi ma))) ∧ (¬ x4 ≤ x5 → ((x2 = 0 → (w_X6_isEarly (fun (z_37 : Int32) => ((¬ z_37 = 0 → (w_X6_meets_90 post k12 (fun (q0 : Int32) (q1 : Int32) (q2 : Int32) (q3 : Nat → Int32) (q4 : Nat → Nat → Int32) => w_X6_meets_50 post k12 x1 x2 ml n0 q0 q1 q2 q3 q4) x1 x2 ml x3 x4 x5 mi ma)) ∧ (z_37 = 0 → (w_X6_meets_203 post k12 (fun (q0 : Int32) (q1 : Int32) (q2 : Int32) (q3 : Nat → Int32) (q4 : Nat → Nat → Int32) => w_X6_meets_50 post k12 x1 x2 ml n0 q0 q1 q2 q3 q4) x1 x2 ml x3 x4 x5 mi ma)))) x5 mi ma ml)) ∧ (¬ x2 = 0 → (vp_in ((nI 224) + x5) 3372 ∧ ((¬ (ma 2 (((nI 224) + x5)).toNatClampNeg) = 0 → (w_X6_meets_90 post k12 (fun (q0 : Int32) (q1 : Int32) (q2 : Int32) (q3 : Nat → Int32) (q4 : Nat → Nat → Int32) => w_X6_meets_50 post k12 x1 x2 ml n0 q0 q1 q2 q3 q4) x1 x2 ml x3 x4 x5 mi ma)) ∧ ((ma 2 (((nI 224) + x5)).toNatClampNeg) = 0 → (w_X6_meets_203 post k12 (fun (q0 : Int32) (q1 : Int32) (q2 : Int32) (q3 : Nat → Int32) (q4 : Nat → Nat → Int32) => w_X6_meets_50 post k12 x1 x2 ml n0 q0 q1 q2 q3 q4) x1 x2 ml x3 x4 x5 mi ma))))))))
def w_X6_meets_45 (post : (Nat → Int32) → (Nat → Nat → Int32) → Prop) (k12 : (Int32) → (Nat → Int32) → (Nat → Nat → Int32) → Prop) (x1 : Int32) (x2 : Int32) (ml : Nat → Nat → Int64) (x3 : Int32) (s0 : Int32) (mi : Nat → Int32) (ma : Nat → Nat → Int32) : Prop :=
 (∃ n1 : Nat, (w_X6_meets_50 post k12 x1 x2 ml n1 x3 s0 (nI 0) mi ma))
def w_X6_meets_12 (post : (Nat → Int32) → (Nat → Nat → Int32) → Prop) (x1 : Int32) (x2 : Int32) (ml : Nat → Nat → Int64) : Nat → (Int32) → (Nat → Int32) → (Nat → Nat → Int32) → Prop
 | 0, _, _, _ => False
 | n0 + 1, x3, mi, ma =>
 (vp_in (nI 162) 3372 ∧ (((ma 2 ((nI 162)).toNatClampNeg) ≤ x3 → (post mi ma)) ∧ (¬ (ma 2 ((nI 162)).toNatClampNeg) ≤ x3 → ((x2 = 0 → (vp_in (nI 0) 3372 ∧ (w_X6_meets_45 post (fun (q0 : Int32) (q1 : Nat → Int32) (q2 : Nat → Nat → Int32) => w_X6_meets_12 post x1 x2 ml n0 q0 q1 q2) x1 x2 ml x3 (ma 2 ((nI 0)).toNatClampNeg) mi ma))) ∧ (¬ x2 = 0 → (vp_in (nI 223) 3372 ∧ (w_X6_meets_45 post (fun (q0 : Int32) (q1 : Nat → Int32) (q2 : Nat → Nat → Int32) => w_X6_meets_12 post x1 x2 ml n0 q0 q1 q2) x1 x2 ml x3 (ma 2 ((nI 223)).toNatClampNeg) mi ma)))))))
def w_X6_meets (post : (Nat → Int32) → (Nat → Nat → Int32) → Prop) (x1 : Int32) (x2 : Int32) (mi : Nat → Int32) (ma : Nat → Nat → Int32) (ml : Nat → Nat → Int64) : Prop :=
 (∀ mi_59 : Nat → Int32, mi_59 = upd mi 32 (nI 0) → (∀ mi_60 : Nat → Int32, mi_60 = upd mi_59 33 (nI 0) → (∃ n1 : Nat, (w_X6_meets_12 post x1 x2 ml n1 (nI 0) mi_60 ma))))
theorem b_X6_meets_193 {post : (Nat → Int32) → (Nat → Nat → Int32) → Prop}   {x1 : Int32} {x2 : Int32} {ml : Nat → Nat → Int64} {k12 : (Int32) → (Nat → Int32) → (Nat → Nat → Int32) → Prop} {k50 : (Int32) → (Int32) → (Int32) → (Nat → Int32) → (Nat → Nat → Int32) → Prop} {k123 : (Int32) → (Int32) → (Int32) → (Int32) → (Int32) → (Nat → Int32) → (Nat → Nat → Int32) → Prop} (hb : mOK b)  (hk12 : ∀ (x3 : Int32) (mi : Nat → Int32) (ma : Nat → Nat → Int32), k12 x3 mi ma → VV l E X cX6_meets RX6 "meets" 8 r_X6_meets none (vpv (fun (h' : AH) => ∃ (mi' : Nat → Int32) (ma' : Nat → Nat → Int32), h' = (mH b mi' ma' ml) ∧ post mi' ma')) (mH b mi ma ml) 0 0 12 [(0, va_rf (some (b 0))), (1, .int x1), (2, .int x2), (3, .int x3)] []) (hk50 : ∀ (x3 : Int32) (x4 : Int32) (x5 : Int32) (mi : Nat → Int32) (ma : Nat → Nat → Int32), k50 x3 x4 x5 mi ma → VV l E X cX6_meets RX6 "meets" 8 r_X6_meets none (vpv (fun (h' : AH) => ∃ (mi' : Nat → Int32) (ma' : Nat → Nat → Int32), h' = (mH b mi' ma' ml) ∧ post mi' ma')) (mH b mi ma ml) 0 0 50 [(0, va_rf (some (b 0))), (1, .int x1), (2, .int x2), (3, .int x3), (4, .int x4), (5, .int x5)] []) (hk123 : ∀ (x3 : Int32) (x4 : Int32) (x5 : Int32) (x6 : Int32) (x7 : Int32) (mi : Nat → Int32) (ma : Nat → Nat → Int32), k123 x3 x4 x5 x6 x7 mi ma → VV l E X cX6_meets RX6 "meets" 8 r_X6_meets none (vpv (fun (h' : AH) => ∃ (mi' : Nat → Int32) (ma' : Nat → Nat → Int32), h' = (mH b mi' ma' ml) ∧ post mi' ma')) (mH b mi ma ml) 0 0 123 [(0, va_rf (some (b 0))), (1, .int x1), (2, .int x2), (3, .int x3), (4, .int x4), (5, .int x5), (6, .int x6), (7, .int x7)] []) (x3 : Int32) (x4 : Int32) (x5 : Int32) (x6 : Int32) (x7 : Int32) (s0 : Int32) (s1 : Int32) (mi : Nat → Int32) (ma : Nat → Nat → Int32) (hw : w_X6_meets_193 post k12 k50 k123 x1 x2 ml x3 x4 x5 x6 x7 s0 s1 mi ma) : VV l E X cX6_meets RX6 "meets" 8 r_X6_meets none (vpv (fun (h' : AH) => ∃ (mi' : Nat → Int32) (ma' : Nat → Nat → Int32), h' = (mH b mi' ma' ml) ∧ post mi' ma')) (mH b mi ma ml) 0 0 193 [(0, va_rf (some (b 0))), (1, .int x1), (2, .int x2), (3, .int x3), (4, .int x4), (5, .int x5), (6, .int x6), (7, .int x7)] [.int s0, .int s1, va_rf (some (b 0))] := by
  refine v_iadd dX6_meets_193 ?_
  obtain ⟨mi_1, emi_1⟩ : ∃ z9 : Nat → Int32, z9 = upd mi 33 (s1 + s0) := ⟨_, rfl⟩
  replace hw := hw mi_1 emi_1
  refine vm_put hb 33 (Nat.le_of_ble_eq_true rfl) q1647 rfl rfl rfl dX6_meets_194 emi_1 rfl ?_
  obtain ⟨z_2, e_2⟩ : ∃ z9 : Int32, z9 = x7 + (nI 1) := ⟨_, rfl⟩
  replace hw := hw z_2 e_2
  refine v_iinc (q := 7) (v := z_2) (lv1 := [(7, .int z_2), (0, va_rf (some (b 0))), (1, .int x1), (2, .int x2), (3, .int x3), (4, .int x4), (5, .int x5), (6, .int x6)]) dX6_meets_197 rfl (by rw [e_2, ic_1]) (Nat.le_of_ble_eq_true rfl) rfl ?_
  refine v_goto (tgt := 123) dX6_meets_200 (by decide) ?_
  refine v_sub [1, 2, 3, 4, 5, 6, 7, 0] rfl ?_
  exact hk123 x3 x4 x5 x6 z_2 mi_1 ma hw
theorem b_X6_meets_171 {post : (Nat → Int32) → (Nat → Nat → Int32) → Prop}   {x1 : Int32} {x2 : Int32} {ml : Nat → Nat → Int64} {k12 : (Int32) → (Nat → Int32) → (Nat → Nat → Int32) → Prop} {k50 : (Int32) → (Int32) → (Int32) → (Nat → Int32) → (Nat → Nat → Int32) → Prop} {k123 : (Int32) → (Int32) → (Int32) → (Int32) → (Int32) → (Nat → Int32) → (Nat → Nat → Int32) → Prop} (hb : mOK b)  (hk12 : ∀ (x3 : Int32) (mi : Nat → Int32) (ma : Nat → Nat → Int32), k12 x3 mi ma → VV l E X cX6_meets RX6 "meets" 8 r_X6_meets none (vpv (fun (h' : AH) => ∃ (mi' : Nat → Int32) (ma' : Nat → Nat → Int32), h' = (mH b mi' ma' ml) ∧ post mi' ma')) (mH b mi ma ml) 0 0 12 [(0, va_rf (some (b 0))), (1, .int x1), (2, .int x2), (3, .int x3)] []) (hk50 : ∀ (x3 : Int32) (x4 : Int32) (x5 : Int32) (mi : Nat → Int32) (ma : Nat → Nat → Int32), k50 x3 x4 x5 mi ma → VV l E X cX6_meets RX6 "meets" 8 r_X6_meets none (vpv (fun (h' : AH) => ∃ (mi' : Nat → Int32) (ma' : Nat → Nat → Int32), h' = (mH b mi' ma' ml) ∧ post mi' ma')) (mH b mi ma ml) 0 0 50 [(0, va_rf (some (b 0))), (1, .int x1), (2, .int x2), (3, .int x3), (4, .int x4), (5, .int x5)] []) (hk123 : ∀ (x3 : Int32) (x4 : Int32) (x5 : Int32) (x6 : Int32) (x7 : Int32) (mi : Nat → Int32) (ma : Nat → Nat → Int32), k123 x3 x4 x5 x6 x7 mi ma → VV l E X cX6_meets RX6 "meets" 8 r_X6_meets none (vpv (fun (h' : AH) => ∃ (mi' : Nat → Int32) (ma' : Nat → Nat → Int32), h' = (mH b mi' ma' ml) ∧ post mi' ma')) (mH b mi ma ml) 0 0 123 [(0, va_rf (some (b 0))), (1, .int x1), (2, .int x2), (3, .int x3), (4, .int x4), (5, .int x5), (6, .int x6), (7, .int x7)] []) (x3 : Int32) (x4 : Int32) (x5 : Int32) (x6 : Int32) (x7 : Int32) (s0 : Int32) (s2 : Int64) (s4 : Int32) (mi : Nat → Int32) (ma : Nat → Nat → Int32) (hw : w_X6_meets_171 post k12 k50 k123 x1 x2 ml x3 x4 x5 x6 x7 s0 s2 s4 mi ma) : VV l E X cX6_meets RX6 "meets" 8 r_X6_meets none (vpv (fun (h' : AH) => ∃ (mi' : Nat → Int32) (ma' : Nat → Nat → Int32), h' = (mH b mi' ma' ml) ∧ post mi' ma')) (mH b mi ma ml) 0 0 171 [(0, va_rf (some (b 0))), (1, .int x1), (2, .int x2), (3, .int x3), (4, .int x4), (5, .int x5), (6, .int x6), (7, .int x7)] [.int s0, va_rf (some (b 3)), .long s2, va_rf (some (b 0)), .int s4, va_rf (some (b 0))] := by
  refine v_bipush dX6_meets_171 bp_12 ?_
  refine v_iload (q := 5) dX6_meets_173 rfl ?_
  refine v_imul dX6_meets_175 ?_
  refine v_iadd dX6_meets_176 ?_
  refine v_iload (q := 7) dX6_meets_177 rfl ?_
  refine v_iadd dX6_meets_179 ?_
  obtain ⟨hi_3, hw⟩ := hw
  refine v_lald dX6_meets_180 (mH_ar3 hb) hi_3 ?_
  refine v_callV q1783 q1785 qs56 q113 q1786 (ci := 7) rfl (mH_obj hb) n_X6_likeOf ⟨Nat.le_of_ble_eq_true rfl, Nat.le_of_ble_eq_true rfl⟩ [.long s2, .long (ml 3 (((s0 + ((nI 12) * x5)) + x7)).toNatClampNeg)] [.int s4, va_rf (some (b 0))] (met_X6_likeOf hb hw) rfl (by simp only [List.map_cons, List.map_nil, List.sum_cons, List.sum_nil, v_rf1, v_cI, v_cJ]; decide) ⟨Nat.le_refl _, Nat.le_refl _⟩ dX6_meets_181 rfl (v_ki (fun z_4 h1 hv => ?_))
  clear hw
  obtain ⟨ma_5, rfl, hw⟩ := hv
  refine v_iload_n (q := 1) dX6_meets_184 rfl rfl ?_
  obtain ⟨hw_8, hw_9⟩ := hw
  refine v_icmp_lt (tgt := 192) dX6_meets_185 (by decide) (fun c_6 => ?_) (fun c_7 => ?_)
  · have hw := hw_8 c_6
    refine v_iconst dX6_meets_192 ic_0 ?_
    refine v_sub [0, 1, 2, 3, 4, 5, 6, 7] rfl ?_
    exact b_X6_meets_193 hb hk12 hk50 hk123 x3 x4 x5 x6 x7 (nI 0) s4 mi ma_5 hw
  · have hw := hw_9 c_7
    refine v_iconst dX6_meets_188 ic_1 ?_
    refine v_goto (tgt := 193) dX6_meets_189 (by decide) ?_
    refine v_sub [0, 1, 2, 3, 4, 5, 6, 7] rfl ?_
    exact b_X6_meets_193 hb hk12 hk50 hk123 x3 x4 x5 x6 x7 (nI 1) s4 mi ma_5 hw
theorem b_X6_meets_203 {post : (Nat → Int32) → (Nat → Nat → Int32) → Prop}   {x1 : Int32} {x2 : Int32} {ml : Nat → Nat → Int64} {k12 : (Int32) → (Nat → Int32) → (Nat → Nat → Int32) → Prop} {k50 : (Int32) → (Int32) → (Int32) → (Nat → Int32) → (Nat → Nat → Int32) → Prop} (hb : mOK b)  (hk12 : ∀ (x3 : Int32) (mi : Nat → Int32) (ma : Nat → Nat → Int32), k12 x3 mi ma → VV l E X cX6_meets RX6 "meets" 8 r_X6_meets none (vpv (fun (h' : AH) => ∃ (mi' : Nat → Int32) (ma' : Nat → Nat → Int32), h' = (mH b mi' ma' ml) ∧ post mi' ma')) (mH b mi ma ml) 0 0 12 [(0, va_rf (some (b 0))), (1, .int x1), (2, .int x2), (3, .int x3)] []) (hk50 : ∀ (x3 : Int32) (x4 : Int32) (x5 : Int32) (mi : Nat → Int32) (ma : Nat → Nat → Int32), k50 x3 x4 x5 mi ma → VV l E X cX6_meets RX6 "meets" 8 r_X6_meets none (vpv (fun (h' : AH) => ∃ (mi' : Nat → Int32) (ma' : Nat → Nat → Int32), h' = (mH b mi' ma' ml) ∧ post mi' ma')) (mH b mi ma ml) 0 0 50 [(0, va_rf (some (b 0))), (1, .int x1), (2, .int x2), (3, .int x3), (4, .int x4), (5, .int x5)] []) (x3 : Int32) (x4 : Int32) (x5 : Int32) (mi : Nat → Int32) (ma : Nat → Nat → Int32) (hw : w_X6_meets_203 post k12 k50 x1 x2 ml x3 x4 x5 mi ma) : VV l E X cX6_meets RX6 "meets" 8 r_X6_meets none (vpv (fun (h' : AH) => ∃ (mi' : Nat → Int32) (ma' : Nat → Nat → Int32), h' = (mH b mi' ma' ml) ∧ post mi' ma')) (mH b mi ma ml) 0 0 203 [(0, va_rf (some (b 0))), (1, .int x1), (2, .int x2), (3, .int x3), (4, .int x4), (5, .int x5)] [] := by
  obtain ⟨z_10, e_10⟩ : ∃ z9 : Int32, z9 = x5 + (nI 1) := ⟨_, rfl⟩
  replace hw := hw z_10 e_10
  refine v_iinc (q := 5) (v := z_10) (lv1 := [(5, .int z_10), (0, va_rf (some (b 0))), (1, .int x1), (2, .int x2), (3, .int x3), (4, .int x4)]) dX6_meets_203 rfl (by rw [e_10, ic_1]) (Nat.le_of_ble_eq_true rfl) rfl ?_
  refine v_goto (tgt := 50) dX6_meets_206 (by decide) ?_
  refine v_sub [1, 2, 3, 4, 5, 0] rfl ?_
  exact hk50 x3 x4 z_10 mi ma hw
theorem b_X6_meets_123 {post : (Nat → Int32) → (Nat → Nat → Int32) → Prop}   {x1 : Int32} {x2 : Int32} {ml : Nat → Nat → Int64} {k12 : (Int32) → (Nat → Int32) → (Nat → Nat → Int32) → Prop} {k50 : (Int32) → (Int32) → (Int32) → (Nat → Int32) → (Nat → Nat → Int32) → Prop} (hb : mOK b)  (hk12 : ∀ (x3 : Int32) (mi : Nat → Int32) (ma : Nat → Nat → Int32), k12 x3 mi ma → VV l E X cX6_meets RX6 "meets" 8 r_X6_meets none (vpv (fun (h' : AH) => ∃ (mi' : Nat → Int32) (ma' : Nat → Nat → Int32), h' = (mH b mi' ma' ml) ∧ post mi' ma')) (mH b mi ma ml) 0 0 12 [(0, va_rf (some (b 0))), (1, .int x1), (2, .int x2), (3, .int x3)] []) (hk50 : ∀ (x3 : Int32) (x4 : Int32) (x5 : Int32) (mi : Nat → Int32) (ma : Nat → Nat → Int32), k50 x3 x4 x5 mi ma → VV l E X cX6_meets RX6 "meets" 8 r_X6_meets none (vpv (fun (h' : AH) => ∃ (mi' : Nat → Int32) (ma' : Nat → Nat → Int32), h' = (mH b mi' ma' ml) ∧ post mi' ma')) (mH b mi ma ml) 0 0 50 [(0, va_rf (some (b 0))), (1, .int x1), (2, .int x2), (3, .int x3), (4, .int x4), (5, .int x5)] []) : ∀ (n0 : Nat) (x3 : Int32) (x4 : Int32) (x5 : Int32) (x6 : Int32) (x7 : Int32) (mi : Nat → Int32) (ma : Nat → Nat → Int32), w_X6_meets_123 post k12 k50 x1 x2 ml n0 x3 x4 x5 x6 x7 mi ma → VV l E X cX6_meets RX6 "meets" 8 r_X6_meets none (vpv (fun (h' : AH) => ∃ (mi' : Nat → Int32) (ma' : Nat → Nat → Int32), h' = (mH b mi' ma' ml) ∧ post mi' ma')) (mH b mi ma ml) 0 0 123 [(0, va_rf (some (b 0))), (1, .int x1), (2, .int x2), (3, .int x3), (4, .int x4), (5, .int x5), (6, .int x6), (7, .int x7)] [] := by
  intro n0
  induction n0 with
  | zero =>
    intro x3 x4 x5 x6 x7 mi ma hw
    exact hw.elim
  | succ n0 ih =>
    intro x3 x4 x5 x6 x7 mi ma hw
    refine v_iload (q := 7) dX6_meets_123 rfl ?_
    refine v_iload (q := 6) dX6_meets_125 rfl ?_
    obtain ⟨hw_13, hw_14⟩ := hw
    refine v_icmp_ge (tgt := 203) dX6_meets_127 (by decide) (fun c_11 => ?_) (fun c_12 => ?_)
    · have hw := hw_13 c_11
      refine v_sub [0, 1, 2, 3, 4, 5] rfl ?_
      exact b_X6_meets_203 hb hk12 hk50 x3 x4 x5 mi ma hw
    · have hw := hw_14 c_12
      refine v_aload_n (q := 0) dX6_meets_130 rfl rfl ?_
      refine v_dup dX6_meets_131 (v_rf1 _) ?_
      refine vm_get hb 32 (Nat.le_of_ble_eq_true rfl) q1646 rfl dX6_meets_132 rfl ?_
      refine v_iconst dX6_meets_135 ic_1 ?_
      refine v_iadd dX6_meets_136 ?_
      obtain ⟨mi_15, emi_15⟩ : ∃ z9 : Nat → Int32, z9 = upd mi 32 ((mi 32) + (nI 1)) := ⟨_, rfl⟩
      replace hw := hw mi_15 emi_15
      refine vm_put hb 32 (Nat.le_of_ble_eq_true rfl) q1646 rfl rfl rfl dX6_meets_137 emi_15 rfl ?_
      refine v_aload_n (q := 0) dX6_meets_140 rfl rfl ?_
      refine v_dup dX6_meets_141 (v_rf1 _) ?_
      refine vm_get hb 33 (Nat.le_of_ble_eq_true rfl) q1647 rfl dX6_meets_142 rfl ?_
      refine v_aload_n (q := 0) dX6_meets_145 rfl rfl ?_
      refine v_aload_n (q := 0) dX6_meets_146 rfl rfl ?_
      refine vm_get hb 3 (Nat.le_of_ble_eq_true rfl) q1617 rfl dX6_meets_147 rfl ?_
      refine v_sipush dX6_meets_150 sp_480 ?_
      refine v_iload_n (q := 3) dX6_meets_153 rfl rfl ?_
      refine v_iadd dX6_meets_154 ?_
      obtain ⟨hi_16, hw⟩ := hw
      refine v_lald dX6_meets_155 (mH_ar3 hb) hi_16 ?_
      refine v_aload_n (q := 0) dX6_meets_156 rfl rfl ?_
      refine vm_get hb 3 (Nat.le_of_ble_eq_true rfl) q1617 rfl dX6_meets_157 rfl ?_
      refine v_iload_n (q := 2) dX6_meets_160 rfl rfl ?_
      obtain ⟨hw_19, hw_20⟩ := hw
      refine v_if_eq (tgt := 170) dX6_meets_161 (by decide) (fun c_17 => ?_) (fun c_18 => ?_)
      · have hw := hw_19 c_17
        refine v_iconst dX6_meets_170 ic_0 ?_
        refine v_sub [0, 1, 2, 3, 4, 5, 6, 7] rfl ?_
        exact b_X6_meets_171 hb hk12 hk50 (fun q0 q1 q2 q3 q4 q5 q6 z => ih q0 q1 q2 q3 q4 q5 q6 z) x3 x4 x5 x6 x7 (nI 0) (ml 3 (((nI 480) + x3)).toNatClampNeg) (mi_15 33) mi_15 ma hw
      · have hw := hw_20 c_18
        refine v_sipush dX6_meets_164 sp_540 ?_
        refine v_goto (tgt := 171) dX6_meets_167 (by decide) ?_
        refine v_sub [0, 1, 2, 3, 4, 5, 6, 7] rfl ?_
        exact b_X6_meets_171 hb hk12 hk50 (fun q0 q1 q2 q3 q4 q5 q6 z => ih q0 q1 q2 q3 q4 q5 q6 z) x3 x4 x5 x6 x7 (nI 540) (ml 3 (((nI 480) + x3)).toNatClampNeg) (mi_15 33) mi_15 ma hw
theorem b_X6_meets_118 {post : (Nat → Int32) → (Nat → Nat → Int32) → Prop}   {x1 : Int32} {x2 : Int32} {ml : Nat → Nat → Int64} {k12 : (Int32) → (Nat → Int32) → (Nat → Nat → Int32) → Prop} {k50 : (Int32) → (Int32) → (Int32) → (Nat → Int32) → (Nat → Nat → Int32) → Prop} (hb : mOK b)  (hk12 : ∀ (x3 : Int32) (mi : Nat → Int32) (ma : Nat → Nat → Int32), k12 x3 mi ma → VV l E X cX6_meets RX6 "meets" 8 r_X6_meets none (vpv (fun (h' : AH) => ∃ (mi' : Nat → Int32) (ma' : Nat → Nat → Int32), h' = (mH b mi' ma' ml) ∧ post mi' ma')) (mH b mi ma ml) 0 0 12 [(0, va_rf (some (b 0))), (1, .int x1), (2, .int x2), (3, .int x3)] []) (hk50 : ∀ (x3 : Int32) (x4 : Int32) (x5 : Int32) (mi : Nat → Int32) (ma : Nat → Nat → Int32), k50 x3 x4 x5 mi ma → VV l E X cX6_meets RX6 "meets" 8 r_X6_meets none (vpv (fun (h' : AH) => ∃ (mi' : Nat → Int32) (ma' : Nat → Nat → Int32), h' = (mH b mi' ma' ml) ∧ post mi' ma')) (mH b mi ma ml) 0 0 50 [(0, va_rf (some (b 0))), (1, .int x1), (2, .int x2), (3, .int x3), (4, .int x4), (5, .int x5)] []) (x3 : Int32) (x4 : Int32) (x5 : Int32) (s0 : Int32) (mi : Nat → Int32) (ma : Nat → Nat → Int32) (hw : w_X6_meets_118 post k12 k50 x1 x2 ml x3 x4 x5 s0 mi ma) : VV l E X cX6_meets RX6 "meets" 8 r_X6_meets none (vpv (fun (h' : AH) => ∃ (mi' : Nat → Int32) (ma' : Nat → Nat → Int32), h' = (mH b mi' ma' ml) ∧ post mi' ma')) (mH b mi ma ml) 0 0 118 [(0, va_rf (some (b 0))), (1, .int x1), (2, .int x2), (3, .int x3), (4, .int x4), (5, .int x5)] [.int s0] := by
  refine v_istore (lv1 := [(6, .int s0), (0, va_rf (some (b 0))), (1, .int x1), (2, .int x2), (3, .int x3), (4, .int x4), (5, .int x5)]) dX6_meets_118 (Nat.le_of_ble_eq_true rfl) rfl ?_
  refine v_iconst dX6_meets_120 ic_0 ?_
  refine v_istore (lv1 := [(7, .int (nI 0)), (6, .int s0), (0, va_rf (some (b 0))), (1, .int x1), (2, .int x2), (3, .int x3), (4, .int x4), (5, .int x5)]) dX6_meets_121 (Nat.le_of_ble_eq_true rfl) rfl ?_
  obtain ⟨n_21, hw⟩ := hw
  refine v_sub [2, 3, 4, 5, 6, 7, 1, 0] rfl ?_
  exact b_X6_meets_123 hb hk12 hk50 n_21 x3 x4 x5 s0 (nI 0) mi ma hw
theorem b_X6_meets_90 {post : (Nat → Int32) → (Nat → Nat → Int32) → Prop}   {x1 : Int32} {x2 : Int32} {ml : Nat → Nat → Int64} {k12 : (Int32) → (Nat → Int32) → (Nat → Nat → Int32) → Prop} {k50 : (Int32) → (Int32) → (Int32) → (Nat → Int32) → (Nat → Nat → Int32) → Prop} (hb : mOK b)  (hk12 : ∀ (x3 : Int32) (mi : Nat → Int32) (ma : Nat → Nat → Int32), k12 x3 mi ma → VV l E X cX6_meets RX6 "meets" 8 r_X6_meets none (vpv (fun (h' : AH) => ∃ (mi' : Nat → Int32) (ma' : Nat → Nat → Int32), h' = (mH b mi' ma' ml) ∧ post mi' ma')) (mH b mi ma ml) 0 0 12 [(0, va_rf (some (b 0))), (1, .int x1), (2, .int x2), (3, .int x3)] []) (hk50 : ∀ (x3 : Int32) (x4 : Int32) (x5 : Int32) (mi : Nat → Int32) (ma : Nat → Nat → Int32), k50 x3 x4 x5 mi ma → VV l E X cX6_meets RX6 "meets" 8 r_X6_meets none (vpv (fun (h' : AH) => ∃ (mi' : Nat → Int32) (ma' : Nat → Nat → Int32), h' = (mH b mi' ma' ml) ∧ post mi' ma')) (mH b mi ma ml) 0 0 50 [(0, va_rf (some (b 0))), (1, .int x1), (2, .int x2), (3, .int x3), (4, .int x4), (5, .int x5)] []) (x3 : Int32) (x4 : Int32) (x5 : Int32) (mi : Nat → Int32) (ma : Nat → Nat → Int32) (hw : w_X6_meets_90 post k12 k50 x1 x2 ml x3 x4 x5 mi ma) : VV l E X cX6_meets RX6 "meets" 8 r_X6_meets none (vpv (fun (h' : AH) => ∃ (mi' : Nat → Int32) (ma' : Nat → Nat → Int32), h' = (mH b mi' ma' ml) ∧ post mi' ma')) (mH b mi ma ml) 0 0 90 [(0, va_rf (some (b 0))), (1, .int x1), (2, .int x2), (3, .int x3), (4, .int x4), (5, .int x5)] [] := by
  refine v_iload_n (q := 2) dX6_meets_90 rfl rfl ?_
  obtain ⟨hw_24, hw_25⟩ := hw
  refine v_if_eq (tgt := 108) dX6_meets_91 (by decide) (fun c_22 => ?_) (fun c_23 => ?_)
  · have hw := hw_24 c_22
    refine v_aload_n (q := 0) dX6_meets_108 rfl rfl ?_
    refine vm_get hb 2 (Nat.le_of_ble_eq_true rfl) q1616 rfl dX6_meets_109 rfl ?_
    refine v_bipush dX6_meets_112 bp_121 ?_
    refine v_iload (q := 5) dX6_meets_114 rfl ?_
    refine v_iadd dX6_meets_116 ?_
    obtain ⟨hi_26, hw⟩ := hw
    refine v_iald dX6_meets_117 (mH_ar2 hb) hi_26 ?_
    refine v_sub [0, 1, 2, 3, 4, 5] rfl ?_
    exact b_X6_meets_118 hb hk12 hk50 x3 x4 x5 (ma 2 (((nI 121) + x5)).toNatClampNeg) mi ma hw
  · have hw := hw_25 c_23
    refine v_aload_n (q := 0) dX6_meets_94 rfl rfl ?_
    refine vm_get hb 2 (Nat.le_of_ble_eq_true rfl) q1616 rfl dX6_meets_95 rfl ?_
    refine v_sipush dX6_meets_98 sp_236 ?_
    refine v_iload (q := 5) dX6_meets_101 rfl ?_
    refine v_iadd dX6_meets_103 ?_
    obtain ⟨hi_27, hw⟩ := hw
    refine v_iald dX6_meets_104 (mH_ar2 hb) hi_27 ?_
    refine v_goto (tgt := 118) dX6_meets_105 (by decide) ?_
    refine v_sub [0, 1, 2, 3, 4, 5] rfl ?_
    exact b_X6_meets_118 hb hk12 hk50 x3 x4 x5 (ma 2 (((nI 236) + x5)).toNatClampNeg) mi ma hw
theorem b_X6_meets_50 {post : (Nat → Int32) → (Nat → Nat → Int32) → Prop}   {x1 : Int32} {x2 : Int32} {ml : Nat → Nat → Int64} {k12 : (Int32) → (Nat → Int32) → (Nat → Nat → Int32) → Prop} (hb : mOK b)  (hk12 : ∀ (x3 : Int32) (mi : Nat → Int32) (ma : Nat → Nat → Int32), k12 x3 mi ma → VV l E X cX6_meets RX6 "meets" 8 r_X6_meets none (vpv (fun (h' : AH) => ∃ (mi' : Nat → Int32) (ma' : Nat → Nat → Int32), h' = (mH b mi' ma' ml) ∧ post mi' ma')) (mH b mi ma ml) 0 0 12 [(0, va_rf (some (b 0))), (1, .int x1), (2, .int x2), (3, .int x3)] []) : ∀ (n0 : Nat) (x3 : Int32) (x4 : Int32) (x5 : Int32) (mi : Nat → Int32) (ma : Nat → Nat → Int32), w_X6_meets_50 post k12 x1 x2 ml n0 x3 x4 x5 mi ma → VV l E X cX6_meets RX6 "meets" 8 r_X6_meets none (vpv (fun (h' : AH) => ∃ (mi' : Nat → Int32) (ma' : Nat → Nat → Int32), h' = (mH b mi' ma' ml) ∧ post mi' ma')) (mH b mi ma ml) 0 0 50 [(0, va_rf (some (b 0))), (1, .int x1), (2, .int x2), (3, .int x3), (4, .int x4), (5, .int x5)] [] := by
  intro n0
  induction n0 with
  | zero =>
    intro x3 x4 x5 mi ma hw
    exact hw.elim
  | succ n0 ih =>
    intro x3 x4 x5 mi ma hw
    refine v_iload (q := 5) dX6_meets_50 rfl ?_
    refine v_iload (q := 4) dX6_meets_52 rfl ?_
    obtain ⟨hw_30, hw_31⟩ := hw
    refine v_icmp_ge (tgt := 209) dX6_meets_54 (by decide) (fun c_28 => ?_) (fun c_29 => ?_)
    · have hw := hw_30 c_28
      obtain ⟨z_32, e_32⟩ : ∃ z9 : Int32, z9 = x3 + (nI 1) := ⟨_, rfl⟩
      replace hw := hw z_32 e_32
      refine v_iinc (q := 3) (v := z_32) (lv1 := [(3, .int z_32), (0, va_rf (some (b 0))), (1, .int x1), (2, .int x2), (4, .int x4), (5, .int x5)]) dX6_meets_209 rfl (by rw [e_32, ic_1]) (Nat.le_of_ble_eq_true rfl) rfl ?_
      refine v_goto (tgt := 12) dX6_meets_212 (by decide) ?_
      refine v_sub [1, 2, 3, 0] rfl ?_
      exact hk12 z_32 mi ma hw
    · have hw := hw_31 c_29
      refine v_iload_n (q := 2) dX6_meets_57 rfl rfl ?_
      obtain ⟨hw_35, hw_36⟩ := hw
      refine v_if_eq (tgt := 78) dX6_meets_58 (by decide) (fun c_33 => ?_) (fun c_34 => ?_)
      · have hw := hw_35 c_33
        refine v_aload_n (q := 0) dX6_meets_78 rfl rfl ?_
        refine v_iload (q := 5) dX6_meets_79 rfl ?_
        refine v_callV q1915 q1917 qs80 q113 q1918 (ci := 7) rfl (mH_obj hb) n_X6_isEarly ⟨Nat.le_of_ble_eq_true rfl, Nat.le_of_ble_eq_true rfl⟩ [.int x5] [] (met_X6_isEarly hb hw) rfl (Nat.zero_le _) ⟨Nat.le_refl _, Nat.le_refl _⟩ dX6_meets_81 rfl (v_ki (fun z_37 h1 hv => ?_))
        clear hw
        obtain ⟨e9, hw⟩ := hv
        refine v_heap e9 ?_
        clear e9
        obtain ⟨hw_40, hw_41⟩ := hw
        refine v_if_ne (tgt := 90) dX6_meets_84 (by decide) (fun c_38 => ?_) (fun c_39 => ?_)
        · have hw := hw_40 c_38
          refine v_sub [0, 1, 2, 3, 4, 5] rfl ?_
          exact b_X6_meets_90 hb hk12 (fun q0 q1 q2 q3 q4 z => ih q0 q1 q2 q3 q4 z) x3 x4 x5 mi ma hw
        · have hw := hw_41 c_39
          refine v_goto (tgt := 203) dX6_meets_87 (by decide) ?_
          refine v_sub [0, 1, 2, 3, 4, 5] rfl ?_
          exact b_X6_meets_203 hb hk12 (fun q0 q1 q2 q3 q4 z => ih q0 q1 q2 q3 q4 z) x3 x4 x5 mi ma hw
      · have hw := hw_36 c_34
        refine v_aload_n (q := 0) dX6_meets_61 rfl rfl ?_
        refine vm_get hb 2 (Nat.le_of_ble_eq_true rfl) q1616 rfl dX6_meets_62 rfl ?_
        refine v_sipush dX6_meets_65 sp_224 ?_
        refine v_iload (q := 5) dX6_meets_68 rfl ?_
        refine v_iadd dX6_meets_70 ?_
        obtain ⟨hi_42, hw⟩ := hw
        refine v_iald dX6_meets_71 (mH_ar2 hb) hi_42 ?_
        obtain ⟨hw_45, hw_46⟩ := hw
        refine v_if_ne (tgt := 90) dX6_meets_72 (by decide) (fun c_43 => ?_) (fun c_44 => ?_)
        · have hw := hw_45 c_43
          refine v_sub [0, 1, 2, 3, 4, 5] rfl ?_
          exact b_X6_meets_90 hb hk12 (fun q0 q1 q2 q3 q4 z => ih q0 q1 q2 q3 q4 z) x3 x4 x5 mi ma hw
        · have hw := hw_46 c_44
          refine v_goto (tgt := 203) dX6_meets_75 (by decide) ?_
          refine v_sub [0, 1, 2, 3, 4, 5] rfl ?_
          exact b_X6_meets_203 hb hk12 (fun q0 q1 q2 q3 q4 z => ih q0 q1 q2 q3 q4 z) x3 x4 x5 mi ma hw
theorem b_X6_meets_45 {post : (Nat → Int32) → (Nat → Nat → Int32) → Prop}   {x1 : Int32} {x2 : Int32} {ml : Nat → Nat → Int64} {k12 : (Int32) → (Nat → Int32) → (Nat → Nat → Int32) → Prop} (hb : mOK b)  (hk12 : ∀ (x3 : Int32) (mi : Nat → Int32) (ma : Nat → Nat → Int32), k12 x3 mi ma → VV l E X cX6_meets RX6 "meets" 8 r_X6_meets none (vpv (fun (h' : AH) => ∃ (mi' : Nat → Int32) (ma' : Nat → Nat → Int32), h' = (mH b mi' ma' ml) ∧ post mi' ma')) (mH b mi ma ml) 0 0 12 [(0, va_rf (some (b 0))), (1, .int x1), (2, .int x2), (3, .int x3)] []) (x3 : Int32) (s0 : Int32) (mi : Nat → Int32) (ma : Nat → Nat → Int32) (hw : w_X6_meets_45 post k12 x1 x2 ml x3 s0 mi ma) : VV l E X cX6_meets RX6 "meets" 8 r_X6_meets none (vpv (fun (h' : AH) => ∃ (mi' : Nat → Int32) (ma' : Nat → Nat → Int32), h' = (mH b mi' ma' ml) ∧ post mi' ma')) (mH b mi ma ml) 0 0 45 [(0, va_rf (some (b 0))), (1, .int x1), (2, .int x2), (3, .int x3)] [.int s0] := by
  refine v_istore (lv1 := [(4, .int s0), (0, va_rf (some (b 0))), (1, .int x1), (2, .int x2), (3, .int x3)]) dX6_meets_45 (Nat.le_of_ble_eq_true rfl) rfl ?_
  refine v_iconst dX6_meets_47 ic_0 ?_
  refine v_istore (lv1 := [(5, .int (nI 0)), (4, .int s0), (0, va_rf (some (b 0))), (1, .int x1), (2, .int x2), (3, .int x3)]) dX6_meets_48 (Nat.le_of_ble_eq_true rfl) rfl ?_
  obtain ⟨n_47, hw⟩ := hw
  refine v_sub [2, 3, 4, 5, 1, 0] rfl ?_
  exact b_X6_meets_50 hb hk12 n_47 x3 s0 (nI 0) mi ma hw
theorem b_X6_meets_12 {post : (Nat → Int32) → (Nat → Nat → Int32) → Prop}   {x1 : Int32} {x2 : Int32} {ml : Nat → Nat → Int64}  (hb : mOK b)   : ∀ (n0 : Nat) (x3 : Int32) (mi : Nat → Int32) (ma : Nat → Nat → Int32), w_X6_meets_12 post x1 x2 ml n0 x3 mi ma → VV l E X cX6_meets RX6 "meets" 8 r_X6_meets none (vpv (fun (h' : AH) => ∃ (mi' : Nat → Int32) (ma' : Nat → Nat → Int32), h' = (mH b mi' ma' ml) ∧ post mi' ma')) (mH b mi ma ml) 0 0 12 [(0, va_rf (some (b 0))), (1, .int x1), (2, .int x2), (3, .int x3)] [] := by
  intro n0
  induction n0 with
  | zero =>
    intro x3 mi ma hw
    exact hw.elim
  | succ n0 ih =>
    intro x3 mi ma hw
    refine v_iload_n (q := 3) dX6_meets_12 rfl rfl ?_
    refine v_aload_n (q := 0) dX6_meets_13 rfl rfl ?_
    refine vm_get hb 2 (Nat.le_of_ble_eq_true rfl) q1616 rfl dX6_meets_14 rfl ?_
    refine v_sipush dX6_meets_17 sp_162 ?_
    obtain ⟨hi_48, hw⟩ := hw
    refine v_iald dX6_meets_20 (mH_ar2 hb) hi_48 ?_
    obtain ⟨hw_51, hw_52⟩ := hw
    refine v_icmp_ge (tgt := 215) dX6_meets_21 (by decide) (fun c_49 => ?_) (fun c_50 => ?_)
    · have hw := hw_51 c_49
      exact v_vret dX6_meets_215 rfl ⟨rfl, _, _, rfl, hw⟩
    · have hw := hw_52 c_50
      refine v_iload_n (q := 2) dX6_meets_24 rfl rfl ?_
      obtain ⟨hw_55, hw_56⟩ := hw
      refine v_if_eq (tgt := 39) dX6_meets_25 (by decide) (fun c_53 => ?_) (fun c_54 => ?_)
      · have hw := hw_55 c_53
        refine v_aload_n (q := 0) dX6_meets_39 rfl rfl ?_
        refine vm_get hb 2 (Nat.le_of_ble_eq_true rfl) q1616 rfl dX6_meets_40 rfl ?_
        refine v_iconst dX6_meets_43 ic_0 ?_
        obtain ⟨hi_57, hw⟩ := hw
        refine v_iald dX6_meets_44 (mH_ar2 hb) hi_57 ?_
        refine v_sub [0, 1, 2, 3] rfl ?_
        exact b_X6_meets_45 hb (fun q0 q1 q2 z => ih q0 q1 q2 z) x3 (ma 2 ((nI 0)).toNatClampNeg) mi ma hw
      · have hw := hw_56 c_54
        refine v_aload_n (q := 0) dX6_meets_28 rfl rfl ?_
        refine vm_get hb 2 (Nat.le_of_ble_eq_true rfl) q1616 rfl dX6_meets_29 rfl ?_
        refine v_sipush dX6_meets_32 sp_223 ?_
        obtain ⟨hi_58, hw⟩ := hw
        refine v_iald dX6_meets_35 (mH_ar2 hb) hi_58 ?_
        refine v_goto (tgt := 45) dX6_meets_36 (by decide) ?_
        refine v_sub [0, 1, 2, 3] rfl ?_
        exact b_X6_meets_45 hb (fun q0 q1 q2 z => ih q0 q1 q2 z) x3 (ma 2 ((nI 223)).toNatClampNeg) mi ma hw
theorem e_X6_meets {post : (Nat → Int32) → (Nat → Nat → Int32) → Prop}   {x1 : Int32} {x2 : Int32} {mi : Nat → Int32} {ma : Nat → Nat → Int32} {ml : Nat → Nat → Int64} (hb : mOK b)  (hw : w_X6_meets post  x1 x2 mi ma ml) : VV l E X cX6_meets RX6 "meets" 8 r_X6_meets none (vpv (fun (h' : AH) => ∃ (mi' : Nat → Int32) (ma' : Nat → Nat → Int32), h' = (mH b mi' ma' ml) ∧ post mi' ma')) (mH b mi ma ml) 0 0 0 [(0, va_rf (some (b 0))), (1, .int x1), (2, .int x2)] [] := by
  refine v_aload_n (q := 0) dX6_meets_0 rfl rfl ?_
  refine v_iconst dX6_meets_1 ic_0 ?_
  obtain ⟨mi_59, emi_59⟩ : ∃ z9 : Nat → Int32, z9 = upd mi 32 (nI 0) := ⟨_, rfl⟩
  replace hw := hw mi_59 emi_59
  refine vm_put hb 32 (Nat.le_of_ble_eq_true rfl) q1646 rfl rfl rfl dX6_meets_2 emi_59 rfl ?_
  refine v_aload_n (q := 0) dX6_meets_5 rfl rfl ?_
  refine v_iconst dX6_meets_6 ic_0 ?_
  obtain ⟨mi_60, emi_60⟩ : ∃ z9 : Nat → Int32, z9 = upd mi_59 33 (nI 0) := ⟨_, rfl⟩
  replace hw := hw mi_60 emi_60
  refine vm_put hb 33 (Nat.le_of_ble_eq_true rfl) q1647 rfl rfl rfl dX6_meets_7 emi_60 rfl ?_
  refine v_iconst dX6_meets_10 ic_0 ?_
  refine v_istore_n (lv1 := [(3, .int (nI 0)), (0, va_rf (some (b 0))), (1, .int x1), (2, .int x2)]) dX6_meets_11 rfl (Nat.le_of_ble_eq_true rfl) rfl ?_
  obtain ⟨n_61, hw⟩ := hw
  refine v_sub [1, 2, 3, 0] rfl ?_
  exact b_X6_meets_12 hb n_61 (nI 0) mi_60 ma hw
theorem met_X6_meets {post : (Nat → Int32) → (Nat → Nat → Int32) → Prop}   {x1 : Int32} {x2 : Int32} {mi : Nat → Int32} {ma : Nat → Nat → Int32} {ml : Nat → Nat → Int64} (hb : mOK b)  (hw : w_X6_meets post  x1 x2 mi ma ml) : Mt l E yX6_meets (ws_ yX6_meets cX6_meets 8 none) r_X6_meets [va_rf (some (b 0)), .int x1, .int x2] (mH b mi ma ml) (vpv (fun (h' : AH) => ∃ (mi' : Nat → Int32) (ma' : Nat → Nat → Int32), h' = (mH b mi' ma' ml) ∧ post mi' ma')) := v_entry (by decide +kernel) (Nat.le_of_ble_eq_true rfl) rfl (fun _ => e_X6_meets hb hw)
/-! X6_common -/
abbrev r_X6_common : Room := { frames := 0, cells := 0, slots := 0, locals := 0 }
theorem n_X6_common : vdn yX6_common 2 := ⟨by decide +kernel, by decide +kernel, by decide +kernel⟩
def w_X6_common_6 (post : (Int64) → Prop) (x0 : Int64) (x2 : Int64) : Nat → (Int64) → (Int64) → Prop
 | 0, _, _ => False
 | n0 + 1, x4, x6 =>
 (((lg_cmp x6 (lN 0)) = 0 → (post x4)) ∧ (¬ (lg_cmp x6 (lN 0)) = 0 → (¬ x6 = 0 ∧ (∀ y_6 : Int64, y_6 = (x4 - x4 / x6 * x6) → (w_X6_common_6 post x0 x2 n0 x6 y_6)))))
def w_X6_common (post : (Int64) → Prop) (x0 : Int64) (x2 : Int64) : Prop :=
 (∃ n1 : Nat, (w_X6_common_6 post x0 x2 n1 x0 x2))
theorem b_X6_common_6 {post : (Int64) → Prop}   {x0 : Int64} {x2 : Int64} {h : AH}    : ∀ (n0 : Nat) (x4 : Int64) (x6 : Int64), w_X6_common_6 post x0 x2 n0 x4 x6 → VV l E X cX6_common RX6 "common" 10 r_X6_common (some .long) (vpl (fun (r : Int64) (h' : AH) => h' = h ∧ post r)) h 0 0 6 [(0, .long x0), (2, .long x2), (4, .long x4), (6, .long x6)] [] := by
  intro n0
  induction n0 with
  | zero =>
    intro x4 x6 hw
    exact hw.elim
  | succ n0 ih =>
    intro x4 x6 hw
    refine v_lload (q := 3) dX6_common_6 rfl ?_
    refine v_lconst (v := lN 0) dX6_common_8 rfl ?_
    refine v_lcmp dX6_common_9 ?_
    obtain ⟨hw_3, hw_4⟩ := hw
    refine v_if_eq (tgt := 31) dX6_common_10 (by decide) (fun c_1 => ?_) (fun c_2 => ?_)
    · have hw := hw_3 c_1
      refine v_lload (q := 2) dX6_common_31 rfl ?_
      exact v_lret dX6_common_33 rfl ⟨_, rfl, rfl, hw⟩
    · have hw := hw_4 c_2
      refine v_lload (q := 2) dX6_common_13 rfl ?_
      refine v_lload (q := 3) dX6_common_15 rfl ?_
      obtain ⟨hz_5, hw⟩ := hw
      refine v_lrem dX6_common_17 hz_5 ?_
      refine v_topl (fun y_6 e_6 => ?_)
      replace hw := hw y_6 e_6
      refine v_lstore (lv1 := [(8, .long y_6), (0, .long x0), (2, .long x2), (4, .long x4), (6, .long x6)]) dX6_common_18 (Nat.le_of_ble_eq_true rfl) rfl ?_
      refine v_lload (q := 4) dX6_common_20 rfl ?_
      refine v_lstore (lv1 := [(4, .long x6), (8, .long y_6), (0, .long x0), (2, .long x2), (6, .long x6)]) dX6_common_22 (Nat.le_of_ble_eq_true rfl) rfl ?_
      refine v_lload (q := 1) dX6_common_24 rfl ?_
      refine v_lstore (lv1 := [(6, .long y_6), (4, .long x6), (8, .long y_6), (0, .long x0), (2, .long x2)]) dX6_common_26 (Nat.le_of_ble_eq_true rfl) rfl ?_
      refine v_goto (tgt := 6) dX6_common_28 (by decide) ?_
      refine v_sub [3, 4, 1, 0] rfl ?_
      exact ih x6 y_6 hw
theorem e_X6_common {post : (Int64) → Prop}   {x0 : Int64} {x2 : Int64} {h : AH}  (hw : w_X6_common post  x0 x2) : VV l E X cX6_common RX6 "common" 10 r_X6_common (some .long) (vpl (fun (r : Int64) (h' : AH) => h' = h ∧ post r)) h 0 0 0 [(0, .long x0), (2, .long x2)] [] := by
  refine v_lload_n (q := 0) dX6_common_0 rfl rfl ?_
  refine v_lstore (lv1 := [(4, .long x0), (0, .long x0), (2, .long x2)]) dX6_common_1 (Nat.le_of_ble_eq_true rfl) rfl ?_
  refine v_lload_n (q := 2) dX6_common_3 rfl rfl ?_
  refine v_lstore (lv1 := [(6, .long x2), (4, .long x0), (0, .long x0), (2, .long x2)]) dX6_common_4 (Nat.le_of_ble_eq_true rfl) rfl ?_
  obtain ⟨n_7, hw⟩ := hw
  refine v_sub [2, 3, 1, 0] rfl ?_
  exact b_X6_common_6 n_7 x0 x2 hw
theorem met_X6_common {post : (Int64) → Prop}   {x0 : Int64} {x2 : Int64} {h : AH}  (hw : w_X6_common post  x0 x2) : Mt l E yX6_common (ws_ yX6_common cX6_common 10 (some .long)) r_X6_common [.long x0, .long x2] h (vpl (fun (r : Int64) (h' : AH) => h' = h ∧ post r)) := v_entry (by decide +kernel) (Nat.le_of_ble_eq_true rfl) rfl (fun _ => e_X6_common hw)
/-! X6_part -/
abbrev r_X6_part : Room := { frames := 1, cells := 0, slots := 0, locals := 29 }
theorem n_X6_part : vdn yX6_part 3 := ⟨by decide +kernel, by decide +kernel, by decide +kernel⟩
def w_X6_part_28 (post : (Int64) → Prop) (x0 : Int64) (x2 : Int64) (x4 : Int32) (x5 : Int64) (s0 : Int64) : Prop :=
 (¬ x5 = 0 ∧ (post (s0 / x5)))
def w_X6_part (post : (Int64) → Prop) (x0 : Int64) (x2 : Int64) (x4 : Int32) : Prop :=
 (w_X6_common (fun (y_2 : Int64) => ((¬ (lg_cmp y_2 (lN 0)) = 0 → ((¬ x4 = 0 → (w_X6_part_28 post x0 x2 x4 y_2 x2)) ∧ (x4 = 0 → (w_X6_part_28 post x0 x2 x4 y_2 x0)))) ∧ ((lg_cmp y_2 (lN 0)) = 0 → (post (lN 0))))) x0 x2)
theorem b_X6_part_28 {post : (Int64) → Prop}   {x0 : Int64} {x2 : Int64} {x4 : Int32} {h : AH}    (x5 : Int64) (s0 : Int64) (hw : w_X6_part_28 post x0 x2 x4 x5 s0) : VV l E X cX6_part RX6 "part" 7 r_X6_part (some .long) (vpl (fun (r : Int64) (h' : AH) => h' = h ∧ post r)) h 0 0 28 [(0, .long x0), (2, .long x2), (4, .int x4), (5, .long x5)] [.long s0] := by
  refine v_lload (q := 3) dX6_part_28 rfl ?_
  obtain ⟨hz_1, hw⟩ := hw
  refine v_ldiv dX6_part_30 hz_1 ?_
  exact v_lret dX6_part_31 rfl ⟨_, rfl, rfl, hw⟩
theorem e_X6_part {post : (Int64) → Prop}   {x0 : Int64} {x2 : Int64} {x4 : Int32} {h : AH}  (hw : w_X6_part post  x0 x2 x4) : VV l E X cX6_part RX6 "part" 7 r_X6_part (some .long) (vpl (fun (r : Int64) (h' : AH) => h' = h ∧ post r)) h 0 0 0 [(0, .long x0), (2, .long x2), (4, .int x4)] [] := by
  refine v_lload_n (q := 0) dX6_part_0 rfl rfl ?_
  refine v_lload_n (q := 1) dX6_part_1 rfl rfl ?_
  refine v_callS q1966 q1967 q113 q1968 n_X6_common ⟨Nat.le_of_ble_eq_true rfl, Nat.le_of_ble_eq_true rfl⟩ [.long x0, .long x2] [] (met_X6_common hw) rfl (Nat.zero_le _) ⟨Nat.le_refl _, Nat.le_refl _⟩ dX6_part_2 rfl (v_kl (fun y_2 h1 hv => ?_))
  clear hw
  obtain ⟨e9, hw⟩ := hv
  refine v_heap e9 ?_
  clear e9
  refine v_lstore (lv1 := [(5, .long y_2), (0, .long x0), (2, .long x2), (4, .int x4)]) dX6_part_5 (Nat.le_of_ble_eq_true rfl) rfl ?_
  refine v_lload (q := 0) dX6_part_7 rfl ?_
  refine v_lconst (v := lN 0) dX6_part_9 rfl ?_
  refine v_lcmp dX6_part_10 ?_
  obtain ⟨hw_5, hw_6⟩ := hw
  refine v_if_ne (tgt := 18) dX6_part_11 (by decide) (fun c_3 => ?_) (fun c_4 => ?_)
  · have hw := hw_5 c_3
    refine v_iload (q := 3) dX6_part_18 rfl ?_
    obtain ⟨hw_9, hw_10⟩ := hw
    refine v_if_ne (tgt := 27) dX6_part_20 (by decide) (fun c_7 => ?_) (fun c_8 => ?_)
    · have hw := hw_9 c_7
      refine v_lload_n (q := 2) dX6_part_27 rfl rfl ?_
      refine v_sub [1, 2, 3, 0] rfl ?_
      exact b_X6_part_28 y_2 x2 hw
    · have hw := hw_10 c_8
      refine v_lload_n (q := 1) dX6_part_23 rfl rfl ?_
      refine v_goto (tgt := 28) dX6_part_24 (by decide) ?_
      refine v_sub [1, 2, 3, 0] rfl ?_
      exact b_X6_part_28 y_2 x0 hw
  · have hw := hw_6 c_4
    refine v_lconst (v := lN 0) dX6_part_14 rfl ?_
    refine v_goto (tgt := 31) dX6_part_15 (by decide) ?_
    exact v_lret dX6_part_31 rfl ⟨_, rfl, rfl, hw⟩
theorem met_X6_part {post : (Int64) → Prop}   {x0 : Int64} {x2 : Int64} {x4 : Int32} {h : AH}  (hw : w_X6_part post  x0 x2 x4) : Mt l E yX6_part (ws_ yX6_part cX6_part 7 (some .long)) r_X6_part [.long x0, .long x2, .int x4] h (vpl (fun (r : Int64) (h' : AH) => h' = h ∧ post r)) := v_entry (by decide +kernel) (Nat.le_of_ble_eq_true rfl) rfl (fun _ => e_X6_part hw)
end WALK
