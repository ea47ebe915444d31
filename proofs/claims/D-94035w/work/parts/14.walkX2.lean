set_option maxRecDepth 100000
section WALK
variable {l : Launch} {E : VE} {X : VX} {b : Nat → Nat}
/-! X10_isDigit -/
abbrev r_X10_isDigit : Room := { frames := 1, cells := 0, slots := 0, locals := 25 }
theorem n_X10_isDigit : vdn yX10_isDigit 1 := ⟨by decide +kernel, by decide +kernel, by decide +kernel⟩
def w_X10_isDigit (post : (Int32) → Prop) (b0 : Nat) (x1 : Int32) (h : AH) : Prop :=
 (∃ fs_4 : List Value, h b0 = some (.inr (11, fs_4)) ∧ (w_X10_see (fun (z_1 : Int32) => (w_X0_in (fun (z_2 : Int32) => ((z_2 = nI 0 ∨ z_2 = nI 1) ∧ post z_2)) ((z_1).toInt64) (lN 48) (lN 57))) b0 x1 h))
theorem e_X10_isDigit {post : (Int32) → Prop}   {b0 : Nat} {x1 : Int32} {h : AH}  (hw : w_X10_isDigit post  b0 x1 h) : VV l E X cX10_isDigit RX10 "isDigit" 2 r_X10_isDigit (some .boolean) (vpi (fun (r : Int32) (h' : AH) => h' = h ∧ post r)) h 0 0 0 [(0, va_rf (some b0)), (1, .int x1)] [] := by
  refine v_aload_n (q := 0) dX10_isDigit_0 rfl rfl ?_
  refine v_iload_n (q := 1) dX10_isDigit_1 rfl rfl ?_
  obtain ⟨fs_4, e_5, hw⟩ := hw
  refine v_callV q698 q700 qs12 q123 q701 (ci := 11) rfl e_5 n_X10_see ⟨Nat.le_of_ble_eq_true rfl, Nat.le_of_ble_eq_true rfl⟩ [.int x1] [] (met_X10_see hw) rfl (Nat.zero_le _) ⟨Nat.le_refl _, Nat.le_refl _⟩ dX10_isDigit_2 rfl (v_ki (fun z_1 h1 hv => ?_))
  clear hw
  obtain ⟨e9, hw⟩ := hv
  refine v_heap e9 ?_
  clear e9
  refine v_i2l dX10_isDigit_5 ?_
  refine v_ldc2 (v := (lN 48)) dX10_isDigit_6 q713 ?_
  refine v_ldc2 (v := (lN 57)) dX10_isDigit_9 q714 ?_
  refine v_callSN q708 q394 q104 q395 n_X0_in ⟨Nat.le_of_ble_eq_true rfl, Nat.le_of_ble_eq_true rfl⟩ [.long ((z_1).toInt64), .long (lN 48), .long (lN 57)] [] (met_X0_in hw) rfl (Nat.zero_le _) ⟨Nat.le_refl _, Nat.le_refl _⟩ dX10_isDigit_12 rfl (v_ki (fun z_2 h1 hv => ?_))
  clear hw
  obtain ⟨e9, hw⟩ := hv
  refine v_heap e9 ?_
  clear e9
  obtain ⟨hn_3, hw⟩ := hw
  exact v_zret dX10_isDigit_15 rfl (v_z1 hn_3).1 ⟨_, rfl, rfl, hw⟩
theorem met_X10_isDigit {post : (Int32) → Prop}   {b0 : Nat} {x1 : Int32} {h : AH}  (hw : w_X10_isDigit post  b0 x1 h) : Mt l E yX10_isDigit (ws_ yX10_isDigit cX10_isDigit 2 (some .boolean)) r_X10_isDigit [va_rf (some b0), .int x1] h (vpi (fun (r : Int32) (h' : AH) => h' = h ∧ post r)) := v_entry (by decide +kernel) (Nat.le_of_ble_eq_true rfl) rfl (fun _ => e_X10_isDigit hw)
/-! X10_next -/
abbrev r_X10_next : Room := { frames := 2, cells := 0, slots := 0, locals := 46 }
theorem n_X10_next : vdn yX10_next 0 := ⟨by decide +kernel, by decide +kernel, by decide +kernel⟩
def w_X10_next_37 (post : (AH) → Prop) (k0 : (AH) → Prop) (b0 : Nat) (h : AH) : Prop :=
 (∃ (fs_1 : List Value) (z_4 : Int32), h b0 = some (.inr (11, fs_1)) ∧ fs_1[3]? = some (.int z_4) ∧ (∃ fs_5 : List Value, h b0 = some (.inr (11, fs_5)) ∧ 3 < fs_5.length ∧ ∀ h_8 : AH, h_8 = va_up h b0 (some (.inr (11, fs_5.set 3 (.int (z_4 + (nI 1)))))) → (k0 h_8)))
def w_X10_next_88 (post : (AH) → Prop) (b0 : Nat) : Nat → (AH) → Prop
 | 0, _ => False
 | n0 + 1, h =>
 (∃ (fs_9 : List Value) (z_12 : Int32), h b0 = some (.inr (11, fs_9)) ∧ fs_9[3]? = some (.int z_12) ∧ (∃ fs_30 : List Value, h b0 = some (.inr (11, fs_30)) ∧ (w_X10_isSmall (fun (z_13 : Int32) => ((z_13 = 0 → (∃ fs_18 : List Value, h b0 = some (.inr (11, fs_18)) ∧ 5 < fs_18.length ∧ ∀ h_21 : AH, h_21 = va_up h b0 (some (.inr (11, fs_18.set 5 (.int (nI 1))))) → (post h_21))) ∧ (¬ z_13 = 0 → (∃ (fs_22 : List Value) (z_25 : Int32), h b0 = some (.inr (11, fs_22)) ∧ fs_22[3]? = some (.int z_25) ∧ (∃ fs_26 : List Value, h b0 = some (.inr (11, fs_26)) ∧ 3 < fs_26.length ∧ ∀ h_29 : AH, h_29 = va_up h b0 (some (.inr (11, fs_26.set 3 (.int (z_25 + (nI 1)))))) → (w_X10_next_88 post b0 n0 h_29)))))) b0 z_12 h)))
def w_X10_next_183 (post : (AH) → Prop) (k136 : (AH) → Prop) (b0 : Nat) (h : AH) : Prop :=
 (∃ (fs_32 : List Value) (z_35 : Int32), h b0 = some (.inr (11, fs_32)) ∧ fs_32[3]? = some (.int z_35) ∧ (∃ fs_36 : List Value, h b0 = some (.inr (11, fs_36)) ∧ 3 < fs_36.length ∧ ∀ h_39 : AH, h_39 = va_up h b0 (some (.inr (11, fs_36.set 3 (.int (z_35 + (nI 1)))))) → (k136 h_39)))
def w_X10_next_215 (post : (AH) → Prop) (b0 : Nat) (s0 : Int32) (h : AH) : Prop :=
 (∃ fs_40 : List Value, h b0 = some (.inr (11, fs_40)) ∧ 5 < fs_40.length ∧ ∀ h_43 : AH, h_43 = va_up h b0 (some (.inr (11, fs_40.set 5 (.int s0)))) → (post h_43))
def w_X10_next_136 (post : (AH) → Prop) (b0 : Nat) : Nat → (AH) → Prop
 | 0, _ => False
 | n0 + 1, h =>
 (∃ (fs_44 : List Value) (z_47 : Int32), h b0 = some (.inr (11, fs_44)) ∧ fs_44[3]? = some (.int z_47) ∧ (∃ fs_92 : List Value, h b0 = some (.inr (11, fs_92)) ∧ (w_X10_isDigit (fun (z_48 : Int32) => ((z_48 = 0 → (∃ (fs_53 : List Value) (z_56 : Int32), h b0 = some (.inr (11, fs_53)) ∧ fs_53[3]? = some (.int z_56) ∧ (∃ (fs_57 : List Value) (z_60 : Int32), h b0 = some (.inr (11, fs_57)) ∧ fs_57[4]? = some (.int z_60) ∧ (((z_56 - z_60) ≤ (nI 3) → (w_X10_next_215 post b0 (nI 2) h)) ∧ (¬ (z_56 - z_60) ≤ (nI 3) → (w_X10_next_215 post b0 (nI 3) h)))))) ∧ (¬ z_48 = 0 → (∃ (fs_65 : List Value) (z_68 : Int32), h b0 = some (.inr (11, fs_65)) ∧ fs_65[3]? = some (.int z_68) ∧ (∃ (fs_69 : List Value) (z_72 : Int32), h b0 = some (.inr (11, fs_69)) ∧ fs_69[4]? = some (.int z_72) ∧ (((nI 3) ≤ (z_68 - z_72) → (w_X10_next_183 post (fun (q0 : AH) => w_X10_next_136 post b0 n0 q0) b0 h)) ∧ (¬ (nI 3) ≤ (z_68 - z_72) → (∃ (fs_77 : List Value) (z_80 : Int32), h b0 = some (.inr (11, fs_77)) ∧ fs_77[6]? = some (.int z_80) ∧ (∃ (fs_81 : List Value) (z_84 : Int32), h b0 = some (.inr (11, fs_81)) ∧ fs_81[3]? = some (.int z_84) ∧ (∃ fs_90 : List Value, h b0 = some (.inr (11, fs_90)) ∧ (w_X10_see (fun (z_85 : Int32) => (∃ fs_86 : List Value, h b0 = some (.inr (11, fs_86)) ∧ 6 < fs_86.length ∧ ∀ h_89 : AH, h_89 = va_up h b0 (some (.inr (11, fs_86.set 6 (.int ((((nI 10) * z_80) + z_85) - (nI 48)))))) → (w_X10_next_183 post (fun (q0 : AH) => w_X10_next_136 post b0 n0 q0) b0 h_89))) b0 z_84 h))))))))))) b0 z_47 h)))
def w_X10_next_264 (post : (AH) → Prop) (b0 : Nat) (s0 : Int32) (h : AH) : Prop :=
 (∃ fs_94 : List Value, h b0 = some (.inr (11, fs_94)) ∧ 5 < fs_94.length ∧ ∀ h_97 : AH, h_97 = va_up h b0 (some (.inr (11, fs_94.set 5 (.int s0)))) → (post h_97))
def w_X10_next_259 (post : (AH) → Prop) (b0 : Nat) (x1 : Int32) (h : AH) : Prop :=
 (w_X10_next_264 post b0 x1 h)
def w_X10_next_50 (post : (AH) → Prop) (b0 : Nat) (h : AH) : Prop :=
 (∃ (fs_98 : List Value) (z_101 : Int32), h b0 = some (.inr (11, fs_98)) ∧ fs_98[3]? = some (.int z_101) ∧ (∃ fs_102 : List Value, h b0 = some (.inr (11, fs_102)) ∧ 4 < fs_102.length ∧ ∀ h_105 : AH, h_105 = va_up h b0 (some (.inr (11, fs_102.set 4 (.int z_101)))) → (∃ (fs_106 : List Value) (z_109 : Int32), h_105 b0 = some (.inr (11, fs_106)) ∧ fs_106[3]? = some (.int z_109) ∧ (∃ (fs_110 : List Value) (z_113 : Int32), h_105 b0 = some (.inr (11, fs_110)) ∧ fs_110[0]? = some (.int z_113) ∧ ((z_109 < z_113 → (∃ (fs_118 : List Value) (z_121 : Int32), h_105 b0 = some (.inr (11, fs_118)) ∧ fs_118[3]? = some (.int z_121) ∧ (∃ fs_171 : List Value, h_105 b0 = some (.inr (11, fs_171)) ∧ (w_X10_isSmall (fun (z_122 : Int32) => ((z_122 = 0 → (∃ (fs_127 : List Value) (z_130 : Int32), h_105 b0 = some (.inr (11, fs_127)) ∧ fs_127[3]? = some (.int z_130) ∧ (∃ fs_168 : List Value, h_105 b0 = some (.inr (11, fs_168)) ∧ (w_X10_isDigit (fun (z_131 : Int32) => ((z_131 = 0 → (∃ (fs_136 : List Value) (z_139 : Int32), h_105 b0 = some (.inr (11, fs_136)) ∧ fs_136[3]? = some (.int z_139) ∧ (∃ fs_161 : List Value, h_105 b0 = some (.inr (11, fs_161)) ∧ (w_X10_see (fun (z_140 : Int32) => (∃ (fs_141 : List Value) (z_144 : Int32), h_105 b0 = some (.inr (11, fs_141)) ∧ fs_141[3]? = some (.int z_144) ∧ (∃ fs_145 : List Value, h_105 b0 = some (.inr (11, fs_145)) ∧ 3 < fs_145.length ∧ ∀ h_148 : AH, h_148 = va_up h_105 b0 (some (.inr (11, fs_145.set 3 (.int (z_144 + (nI 1)))))) → ((z_140 = (nI 59) → (w_X10_next_259 post b0 z_140 h_148)) ∧ (¬ z_140 = (nI 59) → ((z_140 = (nI 40) → (w_X10_next_259 post b0 z_140 h_148)) ∧ (¬ z_140 = (nI 40) → ((¬ z_140 = (nI 41) → (w_X10_next_264 post b0 (nI 3) h_148)) ∧ (z_140 = (nI 41) → (w_X10_next_259 post b0 z_140 h_148)))))))))) b0 z_139 h_105)))) ∧ (¬ z_131 = 0 → (∃ fs_163 : List Value, h_105 b0 = some (.inr (11, fs_163)) ∧ 6 < fs_163.length ∧ ∀ h_166 : AH, h_166 = va_up h_105 b0 (some (.inr (11, fs_163.set 6 (.int (nI 0))))) → (∃ n1 : Nat, (w_X10_next_136 post b0 n1 h_166)))))) b0 z_130 h_105)))) ∧ (¬ z_122 = 0 → (∃ n1 : Nat, (w_X10_next_88 post b0 n1 h_105))))) b0 z_121 h_105)))) ∧ (¬ z_109 < z_113 → (∃ fs_173 : List Value, h_105 b0 = some (.inr (11, fs_173)) ∧ 5 < fs_173.length ∧ ∀ h_176 : AH, h_176 = va_up h_105 b0 (some (.inr (11, fs_173.set 5 (.int (nI 0))))) → (post h_176))))))))
def w_X10_next (post : (AH) → Prop) (b0 : Nat) : Nat → (AH) → Prop
 | 0, _ => False
 | n0 + 1, h =>
 (∃ (fs_177 : List Value) (z_180 : Int32), h b0 = some (.inr (11, fs_177)) ∧ fs_177[3]? = some (.int z_180) ∧ (∃ (fs_181 : List Value) (z_184 : Int32), h b0 = some (.inr (11, fs_181)) ∧ fs_181[0]? = some (.int z_184) ∧ ((z_184 ≤ z_180 → (w_X10_next_50 post b0 h)) ∧ (¬ z_184 ≤ z_180 → (∃ (fs_189 : List Value) (z_192 : Int32), h b0 = some (.inr (11, fs_189)) ∧ fs_189[3]? = some (.int z_192) ∧ (∃ fs_209 : List Value, h b0 = some (.inr (11, fs_209)) ∧ (w_X10_see (fun (z_193 : Int32) => ((z_193 = (nI 32) → (w_X10_next_37 post (fun (q0 : AH) => w_X10_next post b0 n0 q0) b0 h)) ∧ (¬ z_193 = (nI 32) → (∃ (fs_198 : List Value) (z_201 : Int32), h b0 = some (.inr (11, fs_198)) ∧ fs_198[3]? = some (.int z_201) ∧ (∃ fs_207 : List Value, h b0 = some (.inr (11, fs_207)) ∧ (w_X10_see (fun (z_202 : Int32) => ((¬ z_202 = (nI 10) → (w_X10_next_50 post b0 h)) ∧ (z_202 = (nI 10) → (w_X10_next_37 post (fun (q0 : AH) => w_X10_next post b0 n0 q0) b0 h)))) b0 z_201 h)))))) b0 z_192 h)))))))
def w_X10_next_e (post : (AH) → Prop) (b0 : Nat) (h : AH) : Prop :=
 (∃ n1 : Nat, (w_X10_next post b0 n1 h))
theorem b_X10_next_37 {post : (AH) → Prop}   {b0 : Nat} {k0 : (AH) → Prop}  (hk0 : ∀ (h : AH), k0 h → VV l E X cX10_next RX10 "next" 2 r_X10_next none (vpv (fun (h' : AH) => post h')) h 0 0 0 [(0, va_rf (some b0))] []) (h : AH) (hw : w_X10_next_37 post k0 b0 h) : VV l E X cX10_next RX10 "next" 2 r_X10_next none (vpv (fun (h' : AH) => post h')) h 0 0 37 [(0, va_rf (some b0))] [] := by
  refine v_aload_n (q := 0) dX10_next_37 rfl rfl ?_
  refine v_dup dX10_next_38 (v_rf1 _) ?_
  obtain ⟨fs_1, z_4, e_2, e_3, hw⟩ := hw
  refine v_get in_X10 (ci := 11) rfl 3 (Nat.le_of_ble_eq_true rfl) q657 rfl dX10_next_39 e_2 e_3 ?_
  refine v_iconst dX10_next_42 ic_1 ?_
  refine v_iadd dX10_next_43 ?_
  obtain ⟨fs_5, e_6, e_7, hw⟩ := hw
  obtain ⟨h_8, eh_8⟩ : ∃ z9 : AH, z9 = va_up h b0 (some (.inr (11, fs_5.set 3 (.int (z_4 + (nI 1)))))) := ⟨_, rfl⟩
  replace hw := hw h_8 eh_8
  refine v_put in_X10 (ci := 11) rfl 3 (Nat.le_of_ble_eq_true rfl) tyX10 tyX10_ok nmX10 q657 rfl rfl rfl rfl rfl dX10_next_44 e_6 e_7 ?_
  rw [← eh_8]
  refine v_goto (tgt := 0) dX10_next_47 (by decide) ?_
  refine v_sub [0] rfl ?_
  exact hk0 h_8 hw
theorem b_X10_next_88 {post : (AH) → Prop}   {b0 : Nat}    : ∀ (n0 : Nat) (h : AH), w_X10_next_88 post b0 n0 h → VV l E X cX10_next RX10 "next" 2 r_X10_next none (vpv (fun (h' : AH) => post h')) h 0 0 88 [(0, va_rf (some b0))] [] := by
  intro n0
  induction n0 with
  | zero =>
    intro h hw
    exact hw.elim
  | succ n0 ih =>
    intro h hw
    refine v_aload_n (q := 0) dX10_next_88 rfl rfl ?_
    refine v_aload_n (q := 0) dX10_next_89 rfl rfl ?_
    obtain ⟨fs_9, z_12, e_10, e_11, hw⟩ := hw
    refine v_get in_X10 (ci := 11) rfl 3 (Nat.le_of_ble_eq_true rfl) q657 rfl dX10_next_90 e_10 e_11 ?_
    obtain ⟨fs_30, e_31, hw⟩ := hw
    refine v_callV q702 q704 qs13 q123 q705 (ci := 11) rfl e_31 n_X10_isSmall ⟨Nat.le_of_ble_eq_true rfl, Nat.le_of_ble_eq_true rfl⟩ [.int z_12] [] (met_X10_isSmall hw) rfl (Nat.zero_le _) ⟨Nat.le_refl _, Nat.le_refl _⟩ dX10_next_93 rfl (v_ki (fun z_13 h1 hv => ?_))
    clear hw
    obtain ⟨e9, hw⟩ := hv
    refine v_heap e9 ?_
    clear e9
    obtain ⟨hw_16, hw_17⟩ := hw
    refine v_if_eq (tgt := 112) dX10_next_96 (by decide) (fun c_14 => ?_) (fun c_15 => ?_)
    · have hw := hw_16 c_14
      refine v_aload_n (q := 0) dX10_next_112 rfl rfl ?_
      refine v_iconst dX10_next_113 ic_1 ?_
      obtain ⟨fs_18, e_19, e_20, hw⟩ := hw
      obtain ⟨h_21, eh_21⟩ : ∃ z9 : AH, z9 = va_up h b0 (some (.inr (11, fs_18.set 5 (.int (nI 1))))) := ⟨_, rfl⟩
      replace hw := hw h_21 eh_21
      refine v_put in_X10 (ci := 11) rfl 5 (Nat.le_of_ble_eq_true rfl) tyX10 tyX10_ok nmX10 q659 rfl rfl rfl rfl rfl dX10_next_114 e_19 e_20 ?_
      rw [← eh_21]
      refine v_goto (tgt := 267) dX10_next_117 (by decide) ?_
      exact v_vret dX10_next_267 rfl ⟨rfl, hw⟩
    · have hw := hw_17 c_15
      refine v_aload_n (q := 0) dX10_next_99 rfl rfl ?_
      refine v_dup dX10_next_100 (v_rf1 _) ?_
      obtain ⟨fs_22, z_25, e_23, e_24, hw⟩ := hw
      refine v_get in_X10 (ci := 11) rfl 3 (Nat.le_of_ble_eq_true rfl) q657 rfl dX10_next_101 e_23 e_24 ?_
      refine v_iconst dX10_next_104 ic_1 ?_
      refine v_iadd dX10_next_105 ?_
      obtain ⟨fs_26, e_27, e_28, hw⟩ := hw
      obtain ⟨h_29, eh_29⟩ : ∃ z9 : AH, z9 = va_up h b0 (some (.inr (11, fs_26.set 3 (.int (z_25 + (nI 1)))))) := ⟨_, rfl⟩
      replace hw := hw h_29 eh_29
      refine v_put in_X10 (ci := 11) rfl 3 (Nat.le_of_ble_eq_true rfl) tyX10 tyX10_ok nmX10 q657 rfl rfl rfl rfl rfl dX10_next_106 e_27 e_28 ?_
      rw [← eh_29]
      refine v_goto (tgt := 88) dX10_next_109 (by decide) ?_
      refine v_sub [0] rfl ?_
      exact ih h_29 hw
theorem b_X10_next_183 {post : (AH) → Prop}   {b0 : Nat} {k136 : (AH) → Prop}  (hk136 : ∀ (h : AH), k136 h → VV l E X cX10_next RX10 "next" 2 r_X10_next none (vpv (fun (h' : AH) => post h')) h 0 0 136 [(0, va_rf (some b0))] []) (h : AH) (hw : w_X10_next_183 post k136 b0 h) : VV l E X cX10_next RX10 "next" 2 r_X10_next none (vpv (fun (h' : AH) => post h')) h 0 0 183 [(0, va_rf (some b0))] [] := by
  refine v_aload_n (q := 0) dX10_next_183 rfl rfl ?_
  refine v_dup dX10_next_184 (v_rf1 _) ?_
  obtain ⟨fs_32, z_35, e_33, e_34, hw⟩ := hw
  refine v_get in_X10 (ci := 11) rfl 3 (Nat.le_of_ble_eq_true rfl) q657 rfl dX10_next_185 e_33 e_34 ?_
  refine v_iconst dX10_next_188 ic_1 ?_
  refine v_iadd dX10_next_189 ?_
  obtain ⟨fs_36, e_37, e_38, hw⟩ := hw
  obtain ⟨h_39, eh_39⟩ : ∃ z9 : AH, z9 = va_up h b0 (some (.inr (11, fs_36.set 3 (.int (z_35 + (nI 1)))))) := ⟨_, rfl⟩
  replace hw := hw h_39 eh_39
  refine v_put in_X10 (ci := 11) rfl 3 (Nat.le_of_ble_eq_true rfl) tyX10 tyX10_ok nmX10 q657 rfl rfl rfl rfl rfl dX10_next_190 e_37 e_38 ?_
  rw [← eh_39]
  refine v_goto (tgt := 136) dX10_next_193 (by decide) ?_
  refine v_sub [0] rfl ?_
  exact hk136 h_39 hw
theorem b_X10_next_215 {post : (AH) → Prop}   {b0 : Nat}    (s0 : Int32) (h : AH) (hw : w_X10_next_215 post b0 s0 h) : VV l E X cX10_next RX10 "next" 2 r_X10_next none (vpv (fun (h' : AH) => post h')) h 0 0 215 [(0, va_rf (some b0))] [.int s0, va_rf (some b0)] := by
  obtain ⟨fs_40, e_41, e_42, hw⟩ := hw
  obtain ⟨h_43, eh_43⟩ : ∃ z9 : AH, z9 = va_up h b0 (some (.inr (11, fs_40.set 5 (.int s0)))) := ⟨_, rfl⟩
  replace hw := hw h_43 eh_43
  refine v_put in_X10 (ci := 11) rfl 5 (Nat.le_of_ble_eq_true rfl) tyX10 tyX10_ok nmX10 q659 rfl rfl rfl rfl rfl dX10_next_215 e_41 e_42 ?_
  rw [← eh_43]
  refine v_goto (tgt := 267) dX10_next_218 (by decide) ?_
  exact v_vret dX10_next_267 rfl ⟨rfl, hw⟩
theorem b_X10_next_136 {post : (AH) → Prop}   {b0 : Nat}    : ∀ (n0 : Nat) (h : AH), w_X10_next_136 post b0 n0 h → VV l E X cX10_next RX10 "next" 2 r_X10_next none (vpv (fun (h' : AH) => post h')) h 0 0 136 [(0, va_rf (some b0))] [] := by
  intro n0
  induction n0 with
  | zero =>
    intro h hw
    exact hw.elim
  | succ n0 ih =>
    intro h hw
    refine v_aload_n (q := 0) dX10_next_136 rfl rfl ?_
    refine v_aload_n (q := 0) dX10_next_137 rfl rfl ?_
    obtain ⟨fs_44, z_47, e_45, e_46, hw⟩ := hw
    refine v_get in_X10 (ci := 11) rfl 3 (Nat.le_of_ble_eq_true rfl) q657 rfl dX10_next_138 e_45 e_46 ?_
    obtain ⟨fs_92, e_93, hw⟩ := hw
    refine v_callV q709 q711 qs14 q123 q712 (ci := 11) rfl e_93 n_X10_isDigit ⟨Nat.le_of_ble_eq_true rfl, Nat.le_of_ble_eq_true rfl⟩ [.int z_47] [] (met_X10_isDigit hw) rfl (Nat.zero_le _) ⟨Nat.le_refl _, Nat.le_refl _⟩ dX10_next_141 rfl (v_ki (fun z_48 h1 hv => ?_))
    clear hw
    obtain ⟨e9, hw⟩ := hv
    refine v_heap e9 ?_
    clear e9
    obtain ⟨hw_51, hw_52⟩ := hw
    refine v_if_eq (tgt := 196) dX10_next_144 (by decide) (fun c_49 => ?_) (fun c_50 => ?_)
    · have hw := hw_51 c_49
      refine v_aload_n (q := 0) dX10_next_196 rfl rfl ?_
      refine v_aload_n (q := 0) dX10_next_197 rfl rfl ?_
      obtain ⟨fs_53, z_56, e_54, e_55, hw⟩ := hw
      refine v_get in_X10 (ci := 11) rfl 3 (Nat.le_of_ble_eq_true rfl) q657 rfl dX10_next_198 e_54 e_55 ?_
      refine v_aload_n (q := 0) dX10_next_201 rfl rfl ?_
      obtain ⟨fs_57, z_60, e_58, e_59, hw⟩ := hw
      refine v_get in_X10 (ci := 11) rfl 4 (Nat.le_of_ble_eq_true rfl) q658 rfl dX10_next_202 e_58 e_59 ?_
      refine v_isub dX10_next_205 ?_
      refine v_iconst dX10_next_206 ic_3 ?_
      obtain ⟨hw_63, hw_64⟩ := hw
      refine v_icmp_le (tgt := 214) dX10_next_207 (by decide) (fun c_61 => ?_) (fun c_62 => ?_)
      · have hw := hw_63 c_61
        refine v_iconst dX10_next_214 ic_2 ?_
        refine v_sub [0] rfl ?_
        exact b_X10_next_215 (nI 2) h hw
      · have hw := hw_64 c_62
        refine v_iconst dX10_next_210 ic_3 ?_
        refine v_goto (tgt := 215) dX10_next_211 (by decide) ?_
        refine v_sub [0] rfl ?_
        exact b_X10_next_215 (nI 3) h hw
    · have hw := hw_52 c_50
      refine v_aload_n (q := 0) dX10_next_147 rfl rfl ?_
      obtain ⟨fs_65, z_68, e_66, e_67, hw⟩ := hw
      refine v_get in_X10 (ci := 11) rfl 3 (Nat.le_of_ble_eq_true rfl) q657 rfl dX10_next_148 e_66 e_67 ?_
      refine v_aload_n (q := 0) dX10_next_151 rfl rfl ?_
      obtain ⟨fs_69, z_72, e_70, e_71, hw⟩ := hw
      refine v_get in_X10 (ci := 11) rfl 4 (Nat.le_of_ble_eq_true rfl) q658 rfl dX10_next_152 e_70 e_71 ?_
      refine v_isub dX10_next_155 ?_
      refine v_iconst dX10_next_156 ic_3 ?_
      obtain ⟨hw_75, hw_76⟩ := hw
      refine v_icmp_ge (tgt := 183) dX10_next_157 (by decide) (fun c_73 => ?_) (fun c_74 => ?_)
      · have hw := hw_75 c_73
        refine v_sub [0] rfl ?_
        exact b_X10_next_183 (fun q0 z => ih q0 z) h hw
      · have hw := hw_76 c_74
        refine v_aload_n (q := 0) dX10_next_160 rfl rfl ?_
        refine v_bipush dX10_next_161 bp_10 ?_
        refine v_aload_n (q := 0) dX10_next_163 rfl rfl ?_
        obtain ⟨fs_77, z_80, e_78, e_79, hw⟩ := hw
        refine v_get in_X10 (ci := 11) rfl 6 (Nat.le_of_ble_eq_true rfl) q660 rfl dX10_next_164 e_78 e_79 ?_
        refine v_imul dX10_next_167 ?_
        refine v_aload_n (q := 0) dX10_next_168 rfl rfl ?_
        refine v_aload_n (q := 0) dX10_next_169 rfl rfl ?_
        obtain ⟨fs_81, z_84, e_82, e_83, hw⟩ := hw
        refine v_get in_X10 (ci := 11) rfl 3 (Nat.le_of_ble_eq_true rfl) q657 rfl dX10_next_170 e_82 e_83 ?_
        obtain ⟨fs_90, e_91, hw⟩ := hw
        refine v_callV q698 q700 qs12 q123 q701 (ci := 11) rfl e_91 n_X10_see ⟨Nat.le_of_ble_eq_true rfl, Nat.le_of_ble_eq_true rfl⟩ [.int z_84] [.int ((nI 10) * z_80), va_rf (some b0)] (met_X10_see hw) rfl (by simp only [List.map_cons, List.map_nil, List.sum_cons, List.sum_nil, v_rf1, v_cI, v_cJ]; decide) ⟨Nat.le_refl _, Nat.le_refl _⟩ dX10_next_173 rfl (v_ki (fun z_85 h1 hv => ?_))
        clear hw
        obtain ⟨e9, hw⟩ := hv
        refine v_heap e9 ?_
        clear e9
        refine v_iadd dX10_next_176 ?_
        refine v_bipush dX10_next_177 bp_48 ?_
        refine v_isub dX10_next_179 ?_
        obtain ⟨fs_86, e_87, e_88, hw⟩ := hw
        obtain ⟨h_89, eh_89⟩ : ∃ z9 : AH, z9 = va_up h b0 (some (.inr (11, fs_86.set 6 (.int ((((nI 10) * z_80) + z_85) - (nI 48)))))) := ⟨_, rfl⟩
        replace hw := hw h_89 eh_89
        refine v_put in_X10 (ci := 11) rfl 6 (Nat.le_of_ble_eq_true rfl) tyX10 tyX10_ok nmX10 q660 rfl rfl rfl rfl rfl dX10_next_180 e_87 e_88 ?_
        rw [← eh_89]
        refine v_sub [0] rfl ?_
        exact b_X10_next_183 (fun q0 z => ih q0 z) h_89 hw
theorem b_X10_next_264 {post : (AH) → Prop}   {b0 : Nat}    (s0 : Int32) (h : AH) (hw : w_X10_next_264 post b0 s0 h) : VV l E X cX10_next RX10 "next" 2 r_X10_next none (vpv (fun (h' : AH) => post h')) h 0 0 264 [(0, va_rf (some b0))] [.int s0, va_rf (some b0)] := by
  obtain ⟨fs_94, e_95, e_96, hw⟩ := hw
  obtain ⟨h_97, eh_97⟩ : ∃ z9 : AH, z9 = va_up h b0 (some (.inr (11, fs_94.set 5 (.int s0)))) := ⟨_, rfl⟩
  replace hw := hw h_97 eh_97
  refine v_put in_X10 (ci := 11) rfl 5 (Nat.le_of_ble_eq_true rfl) tyX10 tyX10_ok nmX10 q659 rfl rfl rfl rfl rfl dX10_next_264 e_95 e_96 ?_
  rw [← eh_97]
  exact v_vret dX10_next_267 rfl ⟨rfl, hw⟩
theorem b_X10_next_259 {post : (AH) → Prop}   {b0 : Nat}    (x1 : Int32) (h : AH) (hw : w_X10_next_259 post b0 x1 h) : VV l E X cX10_next RX10 "next" 2 r_X10_next none (vpv (fun (h' : AH) => post h')) h 0 0 259 [(0, va_rf (some b0)), (1, .int x1)] [va_rf (some b0)] := by
  refine v_iload_n (q := 1) dX10_next_259 rfl rfl ?_
  refine v_goto (tgt := 264) dX10_next_260 (by decide) ?_
  refine v_sub [0] rfl ?_
  exact b_X10_next_264 x1 h hw
theorem b_X10_next_50 {post : (AH) → Prop}   {b0 : Nat}    (h : AH) (hw : w_X10_next_50 post b0 h) : VV l E X cX10_next RX10 "next" 2 r_X10_next none (vpv (fun (h' : AH) => post h')) h 0 0 50 [(0, va_rf (some b0))] [] := by
  refine v_aload_n (q := 0) dX10_next_50 rfl rfl ?_
  refine v_aload_n (q := 0) dX10_next_51 rfl rfl ?_
  obtain ⟨fs_98, z_101, e_99, e_100, hw⟩ := hw
  refine v_get in_X10 (ci := 11) rfl 3 (Nat.le_of_ble_eq_true rfl) q657 rfl dX10_next_52 e_99 e_100 ?_
  obtain ⟨fs_102, e_103, e_104, hw⟩ := hw
  obtain ⟨h_105, eh_105⟩ : ∃ z9 : AH, z9 = va_up h b0 (some (.inr (11, fs_102.set 4 (.int z_101)))) := ⟨_, rfl⟩
  replace hw := hw h_105 eh_105
  refine v_put in_X10 (ci := 11) rfl 4 (Nat.le_of_ble_eq_true rfl) tyX10 tyX10_ok nmX10 q658 rfl rfl rfl rfl rfl dX10_next_55 e_103 e_104 ?_
  rw [← eh_105]
  refine v_aload_n (q := 0) dX10_next_58 rfl rfl ?_
  obtain ⟨fs_106, z_109, e_107, e_108, hw⟩ := hw
  refine v_get in_X10 (ci := 11) rfl 3 (Nat.le_of_ble_eq_true rfl) q657 rfl dX10_next_59 e_107 e_108 ?_
  refine v_aload_n (q := 0) dX10_next_62 rfl rfl ?_
  obtain ⟨fs_110, z_113, e_111, e_112, hw⟩ := hw
  refine v_get in_X10 (ci := 11) rfl 0 (Nat.le_of_ble_eq_true rfl) q652 rfl dX10_next_63 e_111 e_112 ?_
  obtain ⟨hw_116, hw_117⟩ := hw
  refine v_icmp_lt (tgt := 77) dX10_next_66 (by decide) (fun c_114 => ?_) (fun c_115 => ?_)
  · have hw := hw_116 c_114
    refine v_aload_n (q := 0) dX10_next_77 rfl rfl ?_
    refine v_aload_n (q := 0) dX10_next_78 rfl rfl ?_
    obtain ⟨fs_118, z_121, e_119, e_120, hw⟩ := hw
    refine v_get in_X10 (ci := 11) rfl 3 (Nat.le_of_ble_eq_true rfl) q657 rfl dX10_next_79 e_119 e_120 ?_
    obtain ⟨fs_171, e_172, hw⟩ := hw
    refine v_callV q702 q704 qs13 q123 q705 (ci := 11) rfl e_172 n_X10_isSmall ⟨Nat.le_of_ble_eq_true rfl, Nat.le_of_ble_eq_true rfl⟩ [.int z_121] [] (met_X10_isSmall hw) rfl (Nat.zero_le _) ⟨Nat.le_refl _, Nat.le_refl _⟩ dX10_next_82 rfl (v_ki (fun z_122 h1 hv => ?_))
    clear hw
    obtain ⟨e9, hw⟩ := hv
    refine v_heap e9 ?_
    clear e9
    obtain ⟨hw_125, hw_126⟩ := hw
    refine v_if_eq (tgt := 120) dX10_next_85 (by decide) (fun c_123 => ?_) (fun c_124 => ?_)
    · have hw := hw_125 c_123
      refine v_aload_n (q := 0) dX10_next_120 rfl rfl ?_
      refine v_aload_n (q := 0) dX10_next_121 rfl rfl ?_
      obtain ⟨fs_127, z_130, e_128, e_129, hw⟩ := hw
      refine v_get in_X10 (ci := 11) rfl 3 (Nat.le_of_ble_eq_true rfl) q657 rfl dX10_next_122 e_128 e_129 ?_
      obtain ⟨fs_168, e_169, hw⟩ := hw
      refine v_callV q709 q711 qs14 q123 q712 (ci := 11) rfl e_169 n_X10_isDigit ⟨Nat.le_of_ble_eq_true rfl, Nat.le_of_ble_eq_true rfl⟩ [.int z_130] [] (met_X10_isDigit hw) rfl (Nat.zero_le _) ⟨Nat.le_refl _, Nat.le_refl _⟩ dX10_next_125 rfl (v_ki (fun z_131 h1 hv => ?_))
      clear hw
      obtain ⟨e9, hw⟩ := hv
      refine v_heap e9 ?_
      clear e9
      obtain ⟨hw_134, hw_135⟩ := hw
      refine v_if_eq (tgt := 221) dX10_next_128 (by decide) (fun c_132 => ?_) (fun c_133 => ?_)
      · have hw := hw_134 c_132
        refine v_aload_n (q := 0) dX10_next_221 rfl rfl ?_
        refine v_aload_n (q := 0) dX10_next_222 rfl rfl ?_
        obtain ⟨fs_136, z_139, e_137, e_138, hw⟩ := hw
        refine v_get in_X10 (ci := 11) rfl 3 (Nat.le_of_ble_eq_true rfl) q657 rfl dX10_next_223 e_137 e_138 ?_
        obtain ⟨fs_161, e_162, hw⟩ := hw
        refine v_callV q698 q700 qs12 q123 q701 (ci := 11) rfl e_162 n_X10_see ⟨Nat.le_of_ble_eq_true rfl, Nat.le_of_ble_eq_true rfl⟩ [.int z_139] [] (met_X10_see hw) rfl (Nat.zero_le _) ⟨Nat.le_refl _, Nat.le_refl _⟩ dX10_next_226 rfl (v_ki (fun z_140 h1 hv => ?_))
        clear hw
        obtain ⟨e9, hw⟩ := hv
        refine v_heap e9 ?_
        clear e9
        refine v_istore_n (lv1 := [(1, .int z_140), (0, va_rf (some b0))]) dX10_next_229 rfl (Nat.le_of_ble_eq_true rfl) rfl ?_
        refine v_aload_n (q := 1) dX10_next_230 rfl rfl ?_
        refine v_dup dX10_next_231 (v_rf1 _) ?_
        obtain ⟨fs_141, z_144, e_142, e_143, hw⟩ := hw
        refine v_get in_X10 (ci := 11) rfl 3 (Nat.le_of_ble_eq_true rfl) q657 rfl dX10_next_232 e_142 e_143 ?_
        refine v_iconst dX10_next_235 ic_1 ?_
        refine v_iadd dX10_next_236 ?_
        obtain ⟨fs_145, e_146, e_147, hw⟩ := hw
        obtain ⟨h_148, eh_148⟩ : ∃ z9 : AH, z9 = va_up h_105 b0 (some (.inr (11, fs_145.set 3 (.int (z_144 + (nI 1)))))) := ⟨_, rfl⟩
        replace hw := hw h_148 eh_148
        refine v_put in_X10 (ci := 11) rfl 3 (Nat.le_of_ble_eq_true rfl) tyX10 tyX10_ok nmX10 q657 rfl rfl rfl rfl rfl dX10_next_237 e_146 e_147 ?_
        rw [← eh_148]
        refine v_aload_n (q := 1) dX10_next_240 rfl rfl ?_
        refine v_iload_n (q := 0) dX10_next_241 rfl rfl ?_
        refine v_bipush dX10_next_242 bp_59 ?_
        obtain ⟨hw_151, hw_152⟩ := hw
        refine v_icmp_eq (tgt := 259) dX10_next_244 (by decide) (fun c_149 => ?_) (fun c_150 => ?_)
        · have hw := hw_151 c_149
          refine v_sub [1, 0] rfl ?_
          exact b_X10_next_259 z_140 h_148 hw
        · have hw := hw_152 c_150
          refine v_iload_n (q := 0) dX10_next_247 rfl rfl ?_
          refine v_bipush dX10_next_248 bp_40 ?_
          obtain ⟨hw_155, hw_156⟩ := hw
          refine v_icmp_eq (tgt := 259) dX10_next_250 (by decide) (fun c_153 => ?_) (fun c_154 => ?_)
          · have hw := hw_155 c_153
            refine v_sub [1, 0] rfl ?_
            exact b_X10_next_259 z_140 h_148 hw
          · have hw := hw_156 c_154
            refine v_iload_n (q := 0) dX10_next_253 rfl rfl ?_
            refine v_bipush dX10_next_254 bp_41 ?_
            obtain ⟨hw_159, hw_160⟩ := hw
            refine v_icmp_ne (tgt := 263) dX10_next_256 (by decide) (fun c_157 => ?_) (fun c_158 => ?_)
            · have hw := hw_159 c_157
              refine v_iconst dX10_next_263 ic_3 ?_
              refine v_sub [1] rfl ?_
              exact b_X10_next_264 (nI 3) h_148 hw
            · have hw := hw_160 c_158
              refine v_sub [1, 0] rfl ?_
              exact b_X10_next_259 z_140 h_148 hw
      · have hw := hw_135 c_133
        refine v_aload_n (q := 0) dX10_next_131 rfl rfl ?_
        refine v_iconst dX10_next_132 ic_0 ?_
        obtain ⟨fs_163, e_164, e_165, hw⟩ := hw
        obtain ⟨h_166, eh_166⟩ : ∃ z9 : AH, z9 = va_up h_105 b0 (some (.inr (11, fs_163.set 6 (.int (nI 0))))) := ⟨_, rfl⟩
        replace hw := hw h_166 eh_166
        refine v_put in_X10 (ci := 11) rfl 6 (Nat.le_of_ble_eq_true rfl) tyX10 tyX10_ok nmX10 q660 rfl rfl rfl rfl rfl dX10_next_133 e_164 e_165 ?_
        rw [← eh_166]
        obtain ⟨n_167, hw⟩ := hw
        refine v_sub [0] rfl ?_
        exact b_X10_next_136 n_167 h_166 hw
    · have hw := hw_126 c_124
      obtain ⟨n_170, hw⟩ := hw
      refine v_sub [0] rfl ?_
      exact b_X10_next_88 n_170 h_105 hw
  · have hw := hw_117 c_115
    refine v_aload_n (q := 0) dX10_next_69 rfl rfl ?_
    refine v_iconst dX10_next_70 ic_0 ?_
    obtain ⟨fs_173, e_174, e_175, hw⟩ := hw
    obtain ⟨h_176, eh_176⟩ : ∃ z9 : AH, z9 = va_up h_105 b0 (some (.inr (11, fs_173.set 5 (.int (nI 0))))) := ⟨_, rfl⟩
    replace hw := hw h_176 eh_176
    refine v_put in_X10 (ci := 11) rfl 5 (Nat.le_of_ble_eq_true rfl) tyX10 tyX10_ok nmX10 q659 rfl rfl rfl rfl rfl dX10_next_71 e_174 e_175 ?_
    rw [← eh_176]
    refine v_goto (tgt := 267) dX10_next_74 (by decide) ?_
    exact v_vret dX10_next_267 rfl ⟨rfl, hw⟩
theorem b_X10_next_0 {post : (AH) → Prop}   {b0 : Nat}    : ∀ (n0 : Nat) (h : AH), w_X10_next post b0 n0 h → VV l E X cX10_next RX10 "next" 2 r_X10_next none (vpv (fun (h' : AH) => post h')) h 0 0 0 [(0, va_rf (some b0))] [] := by
  intro n0
  induction n0 with
  | zero =>
    intro h hw
    exact hw.elim
  | succ n0 ih =>
    intro h hw
    refine v_aload_n (q := 0) dX10_next_0 rfl rfl ?_
    obtain ⟨fs_177, z_180, e_178, e_179, hw⟩ := hw
    refine v_get in_X10 (ci := 11) rfl 3 (Nat.le_of_ble_eq_true rfl) q657 rfl dX10_next_1 e_178 e_179 ?_
    refine v_aload_n (q := 0) dX10_next_4 rfl rfl ?_
    obtain ⟨fs_181, z_184, e_182, e_183, hw⟩ := hw
    refine v_get in_X10 (ci := 11) rfl 0 (Nat.le_of_ble_eq_true rfl) q652 rfl dX10_next_5 e_182 e_183 ?_
    obtain ⟨hw_187, hw_188⟩ := hw
    refine v_icmp_ge (tgt := 50) dX10_next_8 (by decide) (fun c_185 => ?_) (fun c_186 => ?_)
    · have hw := hw_187 c_185
      refine v_sub [0] rfl ?_
      exact b_X10_next_50 h hw
    · have hw := hw_188 c_186
      refine v_aload_n (q := 0) dX10_next_11 rfl rfl ?_
      refine v_aload_n (q := 0) dX10_next_12 rfl rfl ?_
      obtain ⟨fs_189, z_192, e_190, e_191, hw⟩ := hw
      refine v_get in_X10 (ci := 11) rfl 3 (Nat.le_of_ble_eq_true rfl) q657 rfl dX10_next_13 e_190 e_191 ?_
      obtain ⟨fs_209, e_210, hw⟩ := hw
      refine v_callV q698 q700 qs12 q123 q701 (ci := 11) rfl e_210 n_X10_see ⟨Nat.le_of_ble_eq_true rfl, Nat.le_of_ble_eq_true rfl⟩ [.int z_192] [] (met_X10_see hw) rfl (Nat.zero_le _) ⟨Nat.le_refl _, Nat.le_refl _⟩ dX10_next_16 rfl (v_ki (fun z_193 h1 hv => ?_))
      clear hw
      obtain ⟨e9, hw⟩ := hv
      refine v_heap e9 ?_
      clear e9
      refine v_bipush dX10_next_19 bp_32 ?_
      obtain ⟨hw_196, hw_197⟩ := hw
      refine v_icmp_eq (tgt := 37) dX10_next_21 (by decide) (fun c_194 => ?_) (fun c_195 => ?_)
      · have hw := hw_196 c_194
        refine v_sub [0] rfl ?_
        exact b_X10_next_37 (fun q0 z => ih q0 z) h hw
      · have hw := hw_197 c_195
        refine v_aload_n (q := 0) dX10_next_24 rfl rfl ?_
        refine v_aload_n (q := 0) dX10_next_25 rfl rfl ?_
        obtain ⟨fs_198, z_201, e_199, e_200, hw⟩ := hw
        refine v_get in_X10 (ci := 11) rfl 3 (Nat.le_of_ble_eq_true rfl) q657 rfl dX10_next_26 e_199 e_200 ?_
        obtain ⟨fs_207, e_208, hw⟩ := hw
        refine v_callV q698 q700 qs12 q123 q701 (ci := 11) rfl e_208 n_X10_see ⟨Nat.le_of_ble_eq_true rfl, Nat.le_of_ble_eq_true rfl⟩ [.int z_201] [] (met_X10_see hw) rfl (Nat.zero_le _) ⟨Nat.le_refl _, Nat.le_refl _⟩ dX10_next_29 rfl (v_ki (fun z_202 h1 hv => ?_))
        clear hw
        obtain ⟨e9, hw⟩ := hv
        refine v_heap e9 ?_
        clear e9
        refine v_bipush dX10_next_32 bp_10 ?_
        obtain ⟨hw_205, hw_206⟩ := hw
        refine v_icmp_ne (tgt := 50) dX10_next_34 (by decide) (fun c_203 => ?_) (fun c_204 => ?_)
        · have hw := hw_205 c_203
          refine v_sub [0] rfl ?_
          exact b_X10_next_50 h hw
        · have hw := hw_206 c_204
          refine v_sub [0] rfl ?_
          exact b_X10_next_37 (fun q0 z => ih q0 z) h hw
theorem e_X10_next {post : (AH) → Prop}   {b0 : Nat} {h : AH}  (hw : w_X10_next_e post  b0 h) : VV l E X cX10_next RX10 "next" 2 r_X10_next none (vpv (fun (h' : AH) => post h')) h 0 0 0 [(0, va_rf (some b0))] [] := by
  obtain ⟨n_211, hw⟩ := hw
  refine v_sub [0] rfl ?_
  exact b_X10_next_0 n_211 h hw
theorem met_X10_next {post : (AH) → Prop}   {b0 : Nat} {h : AH}  (hw : w_X10_next_e post  b0 h) : Mt l E yX10_next (ws_ yX10_next cX10_next 2 none) r_X10_next [va_rf (some b0)] h (vpv (fun (h' : AH) => post h')) := v_entry (by decide +kernel) (Nat.le_of_ble_eq_true rfl) rfl (fun _ => e_X10_next hw)
/-! X10_wrong -/
abbrev r_X10_wrong : Room := { frames := 0, cells := 0, slots := 0, locals := 0 }
theorem n_X10_wrong : vdn yX10_wrong 1 := ⟨by decide +kernel, by decide +kernel, by decide +kernel⟩
def w_X10_wrong_22 (post : (AH) → Prop) (b0 : Nat) (x1 : Int32) (s0 : Int32) (h : AH) : Prop :=
 (∃ fs_1 : List Value, h b0 = some (.inr (11, fs_1)) ∧ 8 < fs_1.length ∧ ∀ h_4 : AH, h_4 = va_up h b0 (some (.inr (11, fs_1.set 8 (.int s0)))) → (∃ (fs_5 : List Value) (z_8 : Int32), h_4 b0 = some (.inr (11, fs_5)) ∧ fs_5[4]? = some (.int z_8) ∧ (∃ fs_9 : List Value, h_4 b0 = some (.inr (11, fs_9)) ∧ 9 < fs_9.length ∧ ∀ h_12 : AH, h_12 = va_up h_4 b0 (some (.inr (11, fs_9.set 9 (.int z_8)))) → (post h_12))))
def w_X10_wrong (post : (AH) → Prop) (b0 : Nat) (x1 : Int32) (h : AH) : Prop :=
 (∃ (fs_13 : List Value) (z_16 : Int32), h b0 = some (.inr (11, fs_13)) ∧ fs_13[8]? = some (.int z_16) ∧ ((z_16 = 0 → (∃ (fs_21 : List Value) (z_24 : Int32), h b0 = some (.inr (11, fs_21)) ∧ fs_21[5]? = some (.int z_24) ∧ ((¬ z_24 = (nI 3) → (w_X10_wrong_22 post b0 x1 x1 h)) ∧ (z_24 = (nI 3) → (w_X10_wrong_22 post b0 x1 (nI 1) h))))) ∧ (¬ z_16 = 0 → (post h))))
theorem b_X10_wrong_22 {post : (AH) → Prop}   {b0 : Nat} {x1 : Int32}    (s0 : Int32) (h : AH) (hw : w_X10_wrong_22 post b0 x1 s0 h) : VV l E X cX10_wrong RX10 "wrong" 2 r_X10_wrong none (vpv (fun (h' : AH) => post h')) h 0 0 22 [(0, va_rf (some b0)), (1, .int x1)] [.int s0, va_rf (some b0)] := by
  obtain ⟨fs_1, e_2, e_3, hw⟩ := hw
  obtain ⟨h_4, eh_4⟩ : ∃ z9 : AH, z9 = va_up h b0 (some (.inr (11, fs_1.set 8 (.int s0)))) := ⟨_, rfl⟩
  replace hw := hw h_4 eh_4
  refine v_put in_X10 (ci := 11) rfl 8 (Nat.le_of_ble_eq_true rfl) tyX10 tyX10_ok nmX10 q662 rfl rfl rfl rfl rfl dX10_wrong_22 e_2 e_3 ?_
  rw [← eh_4]
  refine v_aload_n (q := 0) dX10_wrong_25 rfl rfl ?_
  refine v_aload_n (q := 0) dX10_wrong_26 rfl rfl ?_
  obtain ⟨fs_5, z_8, e_6, e_7, hw⟩ := hw
  refine v_get in_X10 (ci := 11) rfl 4 (Nat.le_of_ble_eq_true rfl) q658 rfl dX10_wrong_27 e_6 e_7 ?_
  obtain ⟨fs_9, e_10, e_11, hw⟩ := hw
  obtain ⟨h_12, eh_12⟩ : ∃ z9 : AH, z9 = va_up h_4 b0 (some (.inr (11, fs_9.set 9 (.int z_8)))) := ⟨_, rfl⟩
  replace hw := hw h_12 eh_12
  refine v_put in_X10 (ci := 11) rfl 9 (Nat.le_of_ble_eq_true rfl) tyX10 tyX10_ok nmX10 q664 rfl rfl rfl rfl rfl dX10_wrong_30 e_10 e_11 ?_
  rw [← eh_12]
  exact v_vret dX10_wrong_33 rfl ⟨rfl, hw⟩
theorem e_X10_wrong {post : (AH) → Prop}   {b0 : Nat} {x1 : Int32} {h : AH}  (hw : w_X10_wrong post  b0 x1 h) : VV l E X cX10_wrong RX10 "wrong" 2 r_X10_wrong none (vpv (fun (h' : AH) => post h')) h 0 0 0 [(0, va_rf (some b0)), (1, .int x1)] [] := by
  refine v_aload_n (q := 0) dX10_wrong_0 rfl rfl ?_
  obtain ⟨fs_13, z_16, e_14, e_15, hw⟩ := hw
  refine v_get in_X10 (ci := 11) rfl 8 (Nat.le_of_ble_eq_true rfl) q662 rfl dX10_wrong_1 e_14 e_15 ?_
  obtain ⟨hw_19, hw_20⟩ := hw
  refine v_if_eq (tgt := 8) dX10_wrong_4 (by decide) (fun c_17 => ?_) (fun c_18 => ?_)
  · have hw := hw_19 c_17
    refine v_aload_n (q := 0) dX10_wrong_8 rfl rfl ?_
    refine v_aload_n (q := 0) dX10_wrong_9 rfl rfl ?_
    obtain ⟨fs_21, z_24, e_22, e_23, hw⟩ := hw
    refine v_get in_X10 (ci := 11) rfl 5 (Nat.le_of_ble_eq_true rfl) q659 rfl dX10_wrong_10 e_22 e_23 ?_
    refine v_iconst dX10_wrong_13 ic_3 ?_
    obtain ⟨hw_27, hw_28⟩ := hw
    refine v_icmp_ne (tgt := 21) dX10_wrong_14 (by decide) (fun c_25 => ?_) (fun c_26 => ?_)
    · have hw := hw_27 c_25
      refine v_iload_n (q := 1) dX10_wrong_21 rfl rfl ?_
      refine v_sub [0, 1] rfl ?_
      exact b_X10_wrong_22 x1 h hw
    · have hw := hw_28 c_26
      refine v_iconst dX10_wrong_17 ic_1 ?_
      refine v_goto (tgt := 22) dX10_wrong_18 (by decide) ?_
      refine v_sub [0, 1] rfl ?_
      exact b_X10_wrong_22 (nI 1) h hw
  · have hw := hw_20 c_18
    exact v_vret dX10_wrong_7 rfl ⟨rfl, hw⟩
theorem met_X10_wrong {post : (AH) → Prop}   {b0 : Nat} {x1 : Int32} {h : AH}  (hw : w_X10_wrong post  b0 x1 h) : Mt l E yX10_wrong (ws_ yX10_wrong cX10_wrong 2 none) r_X10_wrong [va_rf (some b0), .int x1] h (vpv (fun (h' : AH) => post h')) := v_entry (by decide +kernel) (Nat.le_of_ble_eq_true rfl) rfl (fun _ => e_X10_wrong hw)
/-! X11_init -/
abbrev r_X11_init : Room := { frames := 2, cells := 4, slots := 20, locals := 40 }
theorem n_X11_init : vdn yX11_init 0 := ⟨by decide +kernel, by decide +kernel, by decide +kernel⟩
def w_X11_init (post : (AH) → Prop) (b0 : Nat) (h : AH) : Prop :=
 (0 + 1 ≤ 4 ∧ 0 + 2 ≤ 20 ∧ ∀ a_1 : Nat, h a_1 = none → ∀ h_3 : AH, h_3 = va_up h a_1 (some (.inr (9, dfX8))) → ((0 + 1) + 1 ≤ 4 ∧ (0 + 2) + 8 ≤ 20 ∧ (w_X8_init (fun (h_8 : AH) => (∃ fs_9 : List Value, h_8 b0 = some (.inr (12, fs_9)) ∧ 0 < fs_9.length ∧ ∀ h_12 : AH, h_12 = va_up h_8 b0 (some (.inr (12, fs_9.set 0 (va_rf (some a_1))))) → (((0 + 1) + 1) + 1 ≤ 4 ∧ ((0 + 2) + 8) + 2 ≤ 20 ∧ ∀ a_13 : Nat, h_12 a_13 = none → ∀ h_15 : AH, h_15 = va_up h_12 a_13 (some (.inr (9, dfX8))) → ((((0 + 1) + 1) + 1) + 1 ≤ 4 ∧ (((0 + 2) + 8) + 2) + 8 ≤ 20 ∧ (w_X8_init (fun (h_20 : AH) => (∃ fs_21 : List Value, h_20 b0 = some (.inr (12, fs_21)) ∧ 1 < fs_21.length ∧ ∀ h_24 : AH, h_24 = va_up h_20 b0 (some (.inr (12, fs_21.set 1 (va_rf (some a_13))))) → (post h_24))) a_13 h_15))))) a_1 h_3)))
theorem e_X11_init {post : (AH) → Prop}   {b0 : Nat} {h : AH}  (hw : w_X11_init post  b0 h) : VV l E X cX11_init RX11 "<init>" 1 r_X11_init none (vpv (fun (h' : AH) => post h')) h 0 0 0 [(0, va_rf (some b0))] [] := by
  refine v_aload_n (q := 0) dX11_init_0 rfl rfl ?_
  refine v_objInit q726 q154 q155 (Nat.zero_le _) (Nat.le_of_ble_eq_true rfl) (Nat.le_of_ble_eq_true rfl) dX11_init_1 ?_
  refine v_aload_n (q := 0) dX11_init_4 rfl rfl ?_
  obtain ⟨e_4, e_5, hw⟩ := hw
  refine v_new in_X8 (ci := 9) rfl tyX8 tyX8_ok q727 q540 q119 dfX8_ok e_4 e_5 dX11_init_5 (fun a_1 e_2 => ?_)
  obtain ⟨h_3, eh_3⟩ : ∃ z9 : AH, z9 = va_up h a_1 (some (.inr (9, dfX8))) := ⟨_, rfl⟩
  replace hw := hw a_1 e_2 h_3 eh_3
  rw [← eh_3]
  refine v_dup dX11_init_8 (v_rf1 _) ?_
  obtain ⟨e_27, e_28, hw⟩ := hw
  refine v_callIN q728 q542 q119 q543 rfl n_X8_init ⟨Nat.le_of_ble_eq_true rfl, Nat.le_of_ble_eq_true rfl⟩ [] [va_rf (some a_1), va_rf (some b0)] (met_X8_init hw) rfl (by simp only [List.map_cons, List.map_nil, List.sum_cons, List.sum_nil, v_rf1, v_cI, v_cJ]; decide) ⟨e_27, e_28⟩ dX11_init_9 rfl (v_kv (fun h_8 hv => ?_))
  clear hw
  have hw := hv
  clear hv
  obtain ⟨fs_9, e_10, e_11, hw⟩ := hw
  obtain ⟨h_12, eh_12⟩ : ∃ z9 : AH, z9 = va_up h_8 b0 (some (.inr (12, fs_9.set 0 (va_rf (some a_1))))) := ⟨_, rfl⟩
  replace hw := hw h_12 eh_12
  refine v_putF in_X11 (ci := 12) rfl 0 (Nat.le_of_ble_eq_true rfl) tyX11 tyX11_ok nmX11 q729 rfl rfl rfl rfl rfl (v_rfn _ _).1 (v_rfn _ _).2 dX11_init_12 e_10 e_11 ?_
  rw [← eh_12]
  refine v_aload_n (q := 0) dX11_init_15 rfl rfl ?_
  obtain ⟨e_16, e_17, hw⟩ := hw
  refine v_new in_X8 (ci := 9) rfl tyX8 tyX8_ok q727 q540 q119 dfX8_ok e_16 e_17 dX11_init_16 (fun a_13 e_14 => ?_)
  obtain ⟨h_15, eh_15⟩ : ∃ z9 : AH, z9 = va_up h_12 a_13 (some (.inr (9, dfX8))) := ⟨_, rfl⟩
  replace hw := hw a_13 e_14 h_15 eh_15
  rw [← eh_15]
  refine v_dup dX11_init_19 (v_rf1 _) ?_
  obtain ⟨e_25, e_26, hw⟩ := hw
  refine v_callIN q728 q542 q119 q543 rfl n_X8_init ⟨Nat.le_of_ble_eq_true rfl, Nat.le_of_ble_eq_true rfl⟩ [] [va_rf (some a_13), va_rf (some b0)] (met_X8_init hw) rfl (by simp only [List.map_cons, List.map_nil, List.sum_cons, List.sum_nil, v_rf1, v_cI, v_cJ]; decide) ⟨e_25, e_26⟩ dX11_init_20 rfl (v_kv (fun h_20 hv => ?_))
  clear hw
  have hw := hv
  clear hv
  obtain ⟨fs_21, e_22, e_23, hw⟩ := hw
  obtain ⟨h_24, eh_24⟩ : ∃ z9 : AH, z9 = va_up h_20 b0 (some (.inr (12, fs_21.set 1 (va_rf (some a_13))))) := ⟨_, rfl⟩
  replace hw := hw h_24 eh_24
  refine v_putF in_X11 (ci := 12) rfl 1 (Nat.le_of_ble_eq_true rfl) tyX11 tyX11_ok nmX11 q731 rfl rfl rfl rfl rfl (v_rfn _ _).1 (v_rfn _ _).2 dX11_init_23 e_22 e_23 ?_
  rw [← eh_24]
  exact v_vret dX11_init_26 rfl ⟨rfl, hw⟩
theorem met_X11_init {post : (AH) → Prop}   {b0 : Nat} {h : AH}  (hw : w_X11_init post  b0 h) : Mt l E yX11_init (ws_ yX11_init cX11_init 1 none) r_X11_init [va_rf (some b0)] h (vpv (fun (h' : AH) => post h')) := v_entry (by decide +kernel) (Nat.le_of_ble_eq_true rfl) rfl (fun _ => e_X11_init hw)
/-! X10_number -/
abbrev r_X10_number : Room := { frames := 3, cells := 0, slots := 0, locals := 67 }
theorem n_X10_number : vdn yX10_number 2 := ⟨by decide +kernel, by decide +kernel, by decide +kernel⟩
def w_X10_number_47 (post : (Int32) → (AH) → Prop) (b0 : Nat) (x1 : Int32) (x2 : Int32) (h : AH) : Prop :=
 (∃ (fs_1 : List Value) (z_4 : Int32), h b0 = some (.inr (11, fs_1)) ∧ fs_1[6]? = some (.int z_4) ∧ (∃ (fs_5 : List Value) (z_8 : Int32), h b0 = some (.inr (11, fs_5)) ∧ fs_5[8]? = some (.int z_8) ∧ ((z_8 = 0 → (∃ fs_14 : List Value, h b0 = some (.inr (11, fs_14)) ∧ (w_X10_next (fun (h_13 : AH) => (post z_4 h_13)) b0 h))) ∧ (¬ z_8 = 0 → (post (nI 0) h)))))
def w_X10_number_20 (post : (Int32) → (AH) → Prop) (b0 : Nat) (x1 : Int32) (x2 : Int32) (h : AH) : Prop :=
 (∃ (fs_16 : List Value) (z_19 : Int32), h b0 = some (.inr (11, fs_16)) ∧ fs_16[8]? = some (.int z_19) ∧ ((¬ z_19 = 0 → (w_X10_number_47 post b0 x1 x2 h)) ∧ (z_19 = 0 → (∃ (fs_24 : List Value) (z_27 : Int32), h b0 = some (.inr (11, fs_24)) ∧ fs_24[6]? = some (.int z_27) ∧ (w_X0_in (fun (z_28 : Int32) => ((¬ z_28 = 0 → (w_X10_number_47 post b0 x1 x2 h)) ∧ (z_28 = 0 → (∃ fs_34 : List Value, h b0 = some (.inr (11, fs_34)) ∧ (w_X10_wrong (fun (h_33 : AH) => (w_X10_number_47 post b0 x1 x2 h_33)) b0 (nI 3) h))))) ((z_27).toInt64) ((x1).toInt64) ((x2).toInt64))))))
def w_X10_number (post : (Int32) → (AH) → Prop) (b0 : Nat) (x1 : Int32) (x2 : Int32) (h : AH) : Prop :=
 (∃ (fs_36 : List Value) (z_39 : Int32), h b0 = some (.inr (11, fs_36)) ∧ fs_36[8]? = some (.int z_39) ∧ ((¬ z_39 = 0 → (w_X10_number_20 post b0 x1 x2 h)) ∧ (z_39 = 0 → (∃ (fs_44 : List Value) (z_47 : Int32), h b0 = some (.inr (11, fs_44)) ∧ fs_44[5]? = some (.int z_47) ∧ ((z_47 = (nI 2) → (w_X10_number_20 post b0 x1 x2 h)) ∧ (¬ z_47 = (nI 2) → (∃ fs_53 : List Value, h b0 = some (.inr (11, fs_53)) ∧ (w_X10_wrong (fun (h_52 : AH) => (w_X10_number_20 post b0 x1 x2 h_52)) b0 (nI 2) h))))))))
theorem b_X10_number_47 {post : (Int32) → (AH) → Prop}   {b0 : Nat} {x1 : Int32} {x2 : Int32}    (h : AH) (hw : w_X10_number_47 post b0 x1 x2 h) : VV l E X cX10_number RX10 "number" 4 r_X10_number (some .int) (vpi (fun (r : Int32) (h' : AH) => post r h')) h 0 0 47 [(0, va_rf (some b0)), (1, .int x1), (2, .int x2)] [] := by
  refine v_aload_n (q := 0) dX10_number_47 rfl rfl ?_
  obtain ⟨fs_1, z_4, e_2, e_3, hw⟩ := hw
  refine v_get in_X10 (ci := 11) rfl 6 (Nat.le_of_ble_eq_true rfl) q660 rfl dX10_number_48 e_2 e_3 ?_
  refine v_istore_n (lv1 := [(3, .int z_4), (0, va_rf (some b0)), (1, .int x1), (2, .int x2)]) dX10_number_51 rfl (Nat.le_of_ble_eq_true rfl) rfl ?_
  refine v_aload_n (q := 1) dX10_number_52 rfl rfl ?_
  obtain ⟨fs_5, z_8, e_6, e_7, hw⟩ := hw
  refine v_get in_X10 (ci := 11) rfl 8 (Nat.le_of_ble_eq_true rfl) q662 rfl dX10_number_53 e_6 e_7 ?_
  obtain ⟨hw_11, hw_12⟩ := hw
  refine v_if_eq (tgt := 61) dX10_number_56 (by decide) (fun c_9 => ?_) (fun c_10 => ?_)
  · have hw := hw_11 c_9
    refine v_aload_n (q := 1) dX10_number_61 rfl rfl ?_
    obtain ⟨fs_14, e_15, hw⟩ := hw
    refine v_callV q694 q696 qs11 q123 q697 (ci := 11) rfl e_15 n_X10_next ⟨Nat.le_of_ble_eq_true rfl, Nat.le_of_ble_eq_true rfl⟩ [] [] (met_X10_next hw) rfl (Nat.zero_le _) ⟨Nat.le_refl _, Nat.le_refl _⟩ dX10_number_62 rfl (v_kv (fun h_13 hv => ?_))
    clear hw
    have hw := hv
    clear hv
    refine v_iload_n (q := 0) dX10_number_65 rfl rfl ?_
    exact v_iret dX10_number_66 rfl ⟨_, rfl, hw⟩
  · have hw := hw_12 c_10
    refine v_iconst dX10_number_59 ic_0 ?_
    exact v_iret dX10_number_60 rfl ⟨_, rfl, hw⟩
theorem b_X10_number_20 {post : (Int32) → (AH) → Prop}   {b0 : Nat} {x1 : Int32} {x2 : Int32}    (h : AH) (hw : w_X10_number_20 post b0 x1 x2 h) : VV l E X cX10_number RX10 "number" 4 r_X10_number (some .int) (vpi (fun (r : Int32) (h' : AH) => post r h')) h 0 0 20 [(0, va_rf (some b0)), (1, .int x1), (2, .int x2)] [] := by
  refine v_aload_n (q := 0) dX10_number_20 rfl rfl ?_
  obtain ⟨fs_16, z_19, e_17, e_18, hw⟩ := hw
  refine v_get in_X10 (ci := 11) rfl 8 (Nat.le_of_ble_eq_true rfl) q662 rfl dX10_number_21 e_17 e_18 ?_
  obtain ⟨hw_22, hw_23⟩ := hw
  refine v_if_ne (tgt := 47) dX10_number_24 (by decide) (fun c_20 => ?_) (fun c_21 => ?_)
  · have hw := hw_22 c_20
    refine v_sub [0, 1, 2] rfl ?_
    exact b_X10_number_47 h hw
  · have hw := hw_23 c_21
    refine v_aload_n (q := 0) dX10_number_27 rfl rfl ?_
    obtain ⟨fs_24, z_27, e_25, e_26, hw⟩ := hw
    refine v_get in_X10 (ci := 11) rfl 6 (Nat.le_of_ble_eq_true rfl) q660 rfl dX10_number_28 e_25 e_26 ?_
    refine v_i2l dX10_number_31 ?_
    refine v_iload_n (q := 1) dX10_number_32 rfl rfl ?_
    refine v_i2l dX10_number_33 ?_
    refine v_iload_n (q := 2) dX10_number_34 rfl rfl ?_
    refine v_i2l dX10_number_35 ?_
    refine v_callSN q708 q394 q104 q395 n_X0_in ⟨Nat.le_of_ble_eq_true rfl, Nat.le_of_ble_eq_true rfl⟩ [.long ((z_27).toInt64), .long ((x1).toInt64), .long ((x2).toInt64)] [] (met_X0_in hw) rfl (Nat.zero_le _) ⟨Nat.le_refl _, Nat.le_refl _⟩ dX10_number_36 rfl (v_ki (fun z_28 h1 hv => ?_))
    clear hw
    obtain ⟨e9, hw⟩ := hv
    refine v_heap e9 ?_
    clear e9
    obtain ⟨hw_31, hw_32⟩ := hw
    refine v_if_ne (tgt := 47) dX10_number_39 (by decide) (fun c_29 => ?_) (fun c_30 => ?_)
    · have hw := hw_31 c_29
      refine v_sub [0, 1, 2] rfl ?_
      exact b_X10_number_47 h hw
    · have hw := hw_32 c_30
      refine v_aload_n (q := 0) dX10_number_42 rfl rfl ?_
      refine v_iconst dX10_number_43 ic_3 ?_
      obtain ⟨fs_34, e_35, hw⟩ := hw
      refine v_callV q715 q717 qs15 q123 q718 (ci := 11) rfl e_35 n_X10_wrong ⟨Nat.le_of_ble_eq_true rfl, Nat.le_of_ble_eq_true rfl⟩ [.int (nI 3)] [] (met_X10_wrong hw) rfl (Nat.zero_le _) ⟨Nat.le_refl _, Nat.le_refl _⟩ dX10_number_44 rfl (v_kv (fun h_33 hv => ?_))
      clear hw
      have hw := hv
      clear hv
      refine v_sub [0, 1, 2] rfl ?_
      exact b_X10_number_47 h_33 hw
theorem e_X10_number {post : (Int32) → (AH) → Prop}   {b0 : Nat} {x1 : Int32} {x2 : Int32} {h : AH}  (hw : w_X10_number post  b0 x1 x2 h) : VV l E X cX10_number RX10 "number" 4 r_X10_number (some .int) (vpi (fun (r : Int32) (h' : AH) => post r h')) h 0 0 0 [(0, va_rf (some b0)), (1, .int x1), (2, .int x2)] [] := by
  refine v_aload_n (q := 0) dX10_number_0 rfl rfl ?_
  obtain ⟨fs_36, z_39, e_37, e_38, hw⟩ := hw
  refine v_get in_X10 (ci := 11) rfl 8 (Nat.le_of_ble_eq_true rfl) q662 rfl dX10_number_1 e_37 e_38 ?_
  obtain ⟨hw_42, hw_43⟩ := hw
  refine v_if_ne (tgt := 20) dX10_number_4 (by decide) (fun c_40 => ?_) (fun c_41 => ?_)
  · have hw := hw_42 c_40
    refine v_sub [0, 1, 2] rfl ?_
    exact b_X10_number_20 h hw
  · have hw := hw_43 c_41
    refine v_aload_n (q := 0) dX10_number_7 rfl rfl ?_
    obtain ⟨fs_44, z_47, e_45, e_46, hw⟩ := hw
    refine v_get in_X10 (ci := 11) rfl 5 (Nat.le_of_ble_eq_true rfl) q659 rfl dX10_number_8 e_45 e_46 ?_
    refine v_iconst dX10_number_11 ic_2 ?_
    obtain ⟨hw_50, hw_51⟩ := hw
    refine v_icmp_eq (tgt := 20) dX10_number_12 (by decide) (fun c_48 => ?_) (fun c_49 => ?_)
    · have hw := hw_50 c_48
      refine v_sub [0, 1, 2] rfl ?_
      exact b_X10_number_20 h hw
    · have hw := hw_51 c_49
      refine v_aload_n (q := 0) dX10_number_15 rfl rfl ?_
      refine v_iconst dX10_number_16 ic_2 ?_
      obtain ⟨fs_53, e_54, hw⟩ := hw
      refine v_callV q715 q717 qs15 q123 q718 (ci := 11) rfl e_54 n_X10_wrong ⟨Nat.le_of_ble_eq_true rfl, Nat.le_of_ble_eq_true rfl⟩ [.int (nI 2)] [] (met_X10_wrong hw) rfl (Nat.zero_le _) ⟨Nat.le_refl _, Nat.le_refl _⟩ dX10_number_17 rfl (v_kv (fun h_52 hv => ?_))
      clear hw
      have hw := hv
      clear hv
      refine v_sub [0, 1, 2] rfl ?_
      exact b_X10_number_20 h_52 hw
theorem met_X10_number {post : (Int32) → (AH) → Prop}   {b0 : Nat} {x1 : Int32} {x2 : Int32} {h : AH}  (hw : w_X10_number post  b0 x1 x2 h) : Mt l E yX10_number (ws_ yX10_number cX10_number 4 (some .int)) r_X10_number [va_rf (some b0), .int x1, .int x2] h (vpi (fun (r : Int32) (h' : AH) => post r h')) := v_entry (by decide +kernel) (Nat.le_of_ble_eq_true rfl) rfl (fun _ => e_X10_number hw)
/-! X10_side -/
abbrev r_X10_side : Room := { frames := 4, cells := 0, slots := 0, locals := 90 }
theorem n_X10_side : vdn yX10_side 1 := ⟨by decide +kernel, by decide +kernel, by decide +kernel⟩
def w_X10_side_51 (post : (AH) → Prop) (k0 : (AH) → Prop) (b0 : Nat) (x1 : Option Nat) (h : AH) : Prop :=
 (∃ (fs_1 : List Value) (z_4 : Int32), h b0 = some (.inr (11, fs_1)) ∧ fs_1[8]? = some (.int z_4) ∧ ((¬ z_4 = 0 → (k0 h)) ∧ (z_4 = 0 → (∃ fs_15 : List Value, h b0 = some (.inr (11, fs_15)) ∧ (w_X10_number (fun (z_9 : Int32) (h_10 : AH) => (∃ a_11 : Nat, x1 = some a_11 ∧ (∃ fs_13 : List Value, h_10 a_11 = some (.inr (9, fs_13)) ∧ (w_X8_adds (fun (h_12 : AH) => (k0 h_12)) a_11 z_9 h_10)))) b0 (nI 1) (nI 255) h)))))
def w_X10_side (post : (AH) → Prop) (b0 : Nat) (x1 : Option Nat) : Nat → (AH) → Prop
 | 0, _ => False
 | n0 + 1, h =>
 (∃ (fs_17 : List Value) (z_20 : Int32), h b0 = some (.inr (11, fs_17)) ∧ fs_17[8]? = some (.int z_20) ∧ ((¬ z_20 = 0 → (post h)) ∧ (z_20 = 0 → (∃ (fs_25 : List Value) (z_28 : Int32), h b0 = some (.inr (11, fs_25)) ∧ fs_25[5]? = some (.int z_28) ∧ ((¬ z_28 = (nI 2) → (post h)) ∧ (z_28 = (nI 2) → (∃ (fs_33 : List Value) (z_36 : Int32), h b0 = some (.inr (11, fs_33)) ∧ fs_33[6]? = some (.int z_36) ∧ (w_X0_in (fun (z_37 : Int32) => ((¬ z_37 = 0 → (∃ a_42 : Nat, x1 = some a_42 ∧ (∃ (fs_43 : List Value) (z_46 : Int32), h a_42 = some (.inr (9, fs_43)) ∧ fs_43[1]? = some (.int z_46) ∧ ((¬ z_46 = (nI 4) → (w_X10_side_51 post (fun (q0 : AH) => w_X10_side post b0 x1 n0 q0) b0 x1 h)) ∧ (z_46 = (nI 4) → (∃ fs_52 : List Value, h b0 = some (.inr (11, fs_52)) ∧ (w_X10_wrong (fun (h_51 : AH) => (w_X10_side_51 post (fun (q0 : AH) => w_X10_side post b0 x1 n0 q0) b0 x1 h_51)) b0 (nI 4) h))))))) ∧ (z_37 = 0 → (∃ fs_55 : List Value, h b0 = some (.inr (11, fs_55)) ∧ (w_X10_wrong (fun (h_54 : AH) => (w_X10_side_51 post (fun (q0 : AH) => w_X10_side post b0 x1 n0 q0) b0 x1 h_54)) b0 (nI 3) h))))) ((z_36).toInt64) (lN 1) (lN 255)))))))))
def w_X10_side_e (post : (AH) → Prop) (b0 : Nat) (x1 : Option Nat) (h : AH) : Prop :=
 (∃ n1 : Nat, (w_X10_side post b0 x1 n1 h))
theorem b_X10_side_51 {post : (AH) → Prop}   {b0 : Nat} {x1 : Option Nat} {k0 : (AH) → Prop}  (hk0 : ∀ (h : AH), k0 h → VV l E X cX10_side RX10 "side" 2 r_X10_side none (vpv (fun (h' : AH) => post h')) h 0 0 0 [(0, va_rf (some b0)), (1, va_rf x1)] []) (h : AH) (hw : w_X10_side_51 post k0 b0 x1 h) : VV l E X cX10_side RX10 "side" 2 r_X10_side none (vpv (fun (h' : AH) => post h')) h 0 0 51 [(0, va_rf (some b0)), (1, va_rf x1)] [] := by
  refine v_aload_n (q := 0) dX10_side_51 rfl rfl ?_
  obtain ⟨fs_1, z_4, e_2, e_3, hw⟩ := hw
  refine v_get in_X10 (ci := 11) rfl 8 (Nat.le_of_ble_eq_true rfl) q662 rfl dX10_side_52 e_2 e_3 ?_
  obtain ⟨hw_7, hw_8⟩ := hw
  refine v_if_ne (tgt := 0) dX10_side_55 (by decide) (fun c_5 => ?_) (fun c_6 => ?_)
  · have hw := hw_7 c_5
    refine v_sub [0, 1] rfl ?_
    exact hk0 h hw
  · have hw := hw_8 c_6
    refine v_aload_n (q := 1) dX10_side_58 rfl rfl ?_
    refine v_aload_n (q := 0) dX10_side_59 rfl rfl ?_
    refine v_iconst dX10_side_60 ic_1 ?_
    refine v_sipush dX10_side_61 sp_255 ?_
    obtain ⟨fs_15, e_16, hw⟩ := hw
    refine v_callV q746 q748 qs17 q123 q749 (ci := 11) rfl e_16 n_X10_number ⟨Nat.le_of_ble_eq_true rfl, Nat.le_of_ble_eq_true rfl⟩ [.int (nI 1), .int (nI 255)] [va_rf x1] (met_X10_number hw) rfl (by simp only [List.map_cons, List.map_nil, List.sum_cons, List.sum_nil, v_rf1, v_cI, v_cJ]; decide) ⟨Nat.le_refl _, Nat.le_refl _⟩ dX10_side_64 rfl (v_ki (fun z_9 h_10 hv => ?_))
    clear hw
    have hw := hv
    clear hv
    obtain ⟨a_11, ea_11, hw⟩ := hw
    subst ea_11
    obtain ⟨fs_13, e_14, hw⟩ := hw
    refine v_callV q750 q559 q560 q119 q561 (ci := 9) rfl e_14 n_X8_adds ⟨Nat.le_of_ble_eq_true rfl, Nat.le_of_ble_eq_true rfl⟩ [.int z_9] [] (met_X8_adds hw) rfl (Nat.zero_le _) ⟨Nat.le_refl _, Nat.le_refl _⟩ dX10_side_67 rfl (v_kv (fun h_12 hv => ?_))
    clear hw
    have hw := hv
    clear hv
    refine v_goto (tgt := 0) dX10_side_70 (by decide) ?_
    refine v_sub [0, 1] rfl ?_
    exact hk0 h_12 hw
theorem b_X10_side_0 {post : (AH) → Prop}   {b0 : Nat} {x1 : Option Nat}    : ∀ (n0 : Nat) (h : AH), w_X10_side post b0 x1 n0 h → VV l E X cX10_side RX10 "side" 2 r_X10_side none (vpv (fun (h' : AH) => post h')) h 0 0 0 [(0, va_rf (some b0)), (1, va_rf x1)] [] := by
  intro n0
  induction n0 with
  | zero =>
    intro h hw
    exact hw.elim
  | succ n0 ih =>
    intro h hw
    refine v_aload_n (q := 0) dX10_side_0 rfl rfl ?_
    obtain ⟨fs_17, z_20, e_18, e_19, hw⟩ := hw
    refine v_get in_X10 (ci := 11) rfl 8 (Nat.le_of_ble_eq_true rfl) q662 rfl dX10_side_1 e_18 e_19 ?_
    obtain ⟨hw_23, hw_24⟩ := hw
    refine v_if_ne (tgt := 73) dX10_side_4 (by decide) (fun c_21 => ?_) (fun c_22 => ?_)
    · have hw := hw_23 c_21
      exact v_vret dX10_side_73 rfl ⟨rfl, hw⟩
    · have hw := hw_24 c_22
      refine v_aload_n (q := 0) dX10_side_7 rfl rfl ?_
      obtain ⟨fs_25, z_28, e_26, e_27, hw⟩ := hw
      refine v_get in_X10 (ci := 11) rfl 5 (Nat.le_of_ble_eq_true rfl) q659 rfl dX10_side_8 e_26 e_27 ?_
      refine v_iconst dX10_side_11 ic_2 ?_
      obtain ⟨hw_31, hw_32⟩ := hw
      refine v_icmp_ne (tgt := 73) dX10_side_12 (by decide) (fun c_29 => ?_) (fun c_30 => ?_)
      · have hw := hw_31 c_29
        exact v_vret dX10_side_73 rfl ⟨rfl, hw⟩
      · have hw := hw_32 c_30
        refine v_aload_n (q := 0) dX10_side_15 rfl rfl ?_
        obtain ⟨fs_33, z_36, e_34, e_35, hw⟩ := hw
        refine v_get in_X10 (ci := 11) rfl 6 (Nat.le_of_ble_eq_true rfl) q660 rfl dX10_side_16 e_34 e_35 ?_
        refine v_i2l dX10_side_19 ?_
        refine v_lconst (v := lN 1) dX10_side_20 rfl ?_
        refine v_ldc2 (v := (lN 255)) dX10_side_21 q719 ?_
        refine v_callSN q708 q394 q104 q395 n_X0_in ⟨Nat.le_of_ble_eq_true rfl, Nat.le_of_ble_eq_true rfl⟩ [.long ((z_36).toInt64), .long (lN 1), .long (lN 255)] [] (met_X0_in hw) rfl (Nat.zero_le _) ⟨Nat.le_refl _, Nat.le_refl _⟩ dX10_side_24 rfl (v_ki (fun z_37 h1 hv => ?_))
        clear hw
        obtain ⟨e9, hw⟩ := hv
        refine v_heap e9 ?_
        clear e9
        obtain ⟨hw_40, hw_41⟩ := hw
        refine v_if_ne (tgt := 38) dX10_side_27 (by decide) (fun c_38 => ?_) (fun c_39 => ?_)
        · have hw := hw_40 c_38
          refine v_aload_n (q := 1) dX10_side_38 rfl rfl ?_
          obtain ⟨a_42, ea_42, hw⟩ := hw
          subst ea_42
          obtain ⟨fs_43, z_46, e_44, e_45, hw⟩ := hw
          refine v_getN in_X8 (ci := 9) rfl 1 (Nat.le_of_ble_eq_true rfl) q552 rfl dX10_side_39 e_44 e_45 ?_
          refine v_iconst dX10_side_42 ic_4 ?_
          obtain ⟨hw_49, hw_50⟩ := hw
          refine v_icmp_ne (tgt := 51) dX10_side_43 (by decide) (fun c_47 => ?_) (fun c_48 => ?_)
          · have hw := hw_49 c_47
            refine v_sub [0, 1] rfl ?_
            exact b_X10_side_51 (fun q0 z => ih q0 z) h hw
          · have hw := hw_50 c_48
            refine v_aload_n (q := 0) dX10_side_46 rfl rfl ?_
            refine v_iconst dX10_side_47 ic_4 ?_
            obtain ⟨fs_52, e_53, hw⟩ := hw
            refine v_callV q715 q717 qs15 q123 q718 (ci := 11) rfl e_53 n_X10_wrong ⟨Nat.le_of_ble_eq_true rfl, Nat.le_of_ble_eq_true rfl⟩ [.int (nI 4)] [] (met_X10_wrong hw) rfl (Nat.zero_le _) ⟨Nat.le_refl _, Nat.le_refl _⟩ dX10_side_48 rfl (v_kv (fun h_51 hv => ?_))
            clear hw
            have hw := hv
            clear hv
            refine v_sub [0, 1] rfl ?_
            exact b_X10_side_51 (fun q0 z => ih q0 z) h_51 hw
        · have hw := hw_41 c_39
          refine v_aload_n (q := 0) dX10_side_30 rfl rfl ?_
          refine v_iconst dX10_side_31 ic_3 ?_
          obtain ⟨fs_55, e_56, hw⟩ := hw
          refine v_callV q715 q717 qs15 q123 q718 (ci := 11) rfl e_56 n_X10_wrong ⟨Nat.le_of_ble_eq_true rfl, Nat.le_of_ble_eq_true rfl⟩ [.int (nI 3)] [] (met_X10_wrong hw) rfl (Nat.zero_le _) ⟨Nat.le_refl _, Nat.le_refl _⟩ dX10_side_32 rfl (v_kv (fun h_54 hv => ?_))
          clear hw
          have hw := hv
          clear hv
          refine v_goto (tgt := 51) dX10_side_35 (by decide) ?_
          refine v_sub [0, 1] rfl ?_
          exact b_X10_side_51 (fun q0 z => ih q0 z) h_54 hw
theorem e_X10_side {post : (AH) → Prop}   {b0 : Nat} {x1 : Option Nat} {h : AH}  (hw : w_X10_side_e post  b0 x1 h) : VV l E X cX10_side RX10 "side" 2 r_X10_side none (vpv (fun (h' : AH) => post h')) h 0 0 0 [(0, va_rf (some b0)), (1, va_rf x1)] [] := by
  obtain ⟨n_57, hw⟩ := hw
  refine v_sub [0, 1] rfl ?_
  exact b_X10_side_0 n_57 h hw
theorem met_X10_side {post : (AH) → Prop}   {b0 : Nat} {x1 : Option Nat} {h : AH}  (hw : w_X10_side_e post  b0 x1 h) : Mt l E yX10_side (ws_ yX10_side cX10_side 2 none) r_X10_side [va_rf (some b0), va_rf x1] h (vpv (fun (h' : AH) => post h')) := v_entry (by decide +kernel) (by cases x1 <;> exact (Nat.le_of_ble_eq_true rfl)) (by cases x1 <;> exact rfl) (fun _ => e_X10_side hw)
/-! X10_is -/
abbrev r_X10_is : Room := { frames := 7, cells := 0, slots := 0, locals := 421 }
theorem n_X10_is : vdn yX10_is 1 := ⟨by decide +kernel, by decide +kernel, by decide +kernel⟩
def w_X10_is_35 (post : (Int32) → Prop) (b0 : Nat) (x1 : Nat) (h : AH) : Nat → (Int32) → Prop
 | 0, _ => False
 | n0 + 1, x2 =>
 (x1 < 14 ∧ (w_J8_length (fun (z_1 : Int32) => ((z_1 ≤ x2 → (post (nI 1))) ∧ (¬ z_1 ≤ x2 → (∃ (fs_6 : List Value) (z_9 : Int32), h b0 = some (.inr (11, fs_6)) ∧ fs_6[4]? = some (.int z_9) ∧ (∃ fs_18 : List Value, h b0 = some (.inr (11, fs_18)) ∧ (w_X10_see (fun (z_10 : Int32) => (x1 < 14 ∧ (w_J8_charAt (fun (z_11 : Int32) => ((z_10 = z_11 → (∀ z_16 : Int32, z_16 = x2 + (nI 1) → (w_X10_is_35 post b0 x1 h n0 z_16))) ∧ (¬ z_10 = z_11 → (post (nI 0))))) x1 x2))) b0 (z_9 + x2) h)))))) x1))
def w_X10_is (post : (Int32) → Prop) (b0 : Nat) (x1 : Nat) (h : AH) : Prop :=
 (∃ (fs_21 : List Value) (z_24 : Int32), h b0 = some (.inr (11, fs_21)) ∧ fs_21[8]? = some (.int z_24) ∧ ((¬ z_24 = 0 → (post (nI 0))) ∧ (z_24 = 0 → (∃ (fs_29 : List Value) (z_32 : Int32), h b0 = some (.inr (11, fs_29)) ∧ fs_29[5]? = some (.int z_32) ∧ ((¬ z_32 = (nI 1) → (post (nI 0))) ∧ (z_32 = (nI 1) → (∃ (fs_37 : List Value) (z_40 : Int32), h b0 = some (.inr (11, fs_37)) ∧ fs_37[3]? = some (.int z_40) ∧ (∃ (fs_41 : List Value) (z_44 : Int32), h b0 = some (.inr (11, fs_41)) ∧ fs_41[4]? = some (.int z_44) ∧ (x1 < 14 ∧ (w_J8_length (fun (z_45 : Int32) => (((z_40 - z_44) = z_45 → (∃ n1 : Nat, (w_X10_is_35 post b0 x1 h n1 (nI 0)))) ∧ (¬ (z_40 - z_44) = z_45 → (post (nI 0))))) x1))))))))))
theorem b_X10_is_35 {post : (Int32) → Prop}   {b0 : Nat} {x1 : Nat} {h : AH}    : ∀ (n0 : Nat) (x2 : Int32), w_X10_is_35 post b0 x1 h n0 x2 → VV l E X cX10_is RX10 "is" 3 r_X10_is (some .boolean) (vpi (fun (r : Int32) (h' : AH) => h' = h ∧ post r)) h 0 0 35 [(0, va_rf (some b0)), (1, va_rf (some (E.2.2.1 x1))), (2, .int x2)] [] := by
  intro n0
  induction n0 with
  | zero =>
    intro x2 hw
    exact hw.elim
  | succ n0 ih =>
    intro x2 hw
    refine v_iload_n (q := 2) dX10_is_35 rfl rfl ?_
    refine v_aload_n (q := 1) dX10_is_36 rfl rfl ?_
    obtain ⟨hi_20, hw⟩ := hw
    refine v_callStr hi_20 q760 q761 q762 q125 q763 rfl n_J8_length ⟨Nat.le_of_ble_eq_true rfl, Nat.le_of_ble_eq_true rfl⟩ [] [.int x2] (met_J8_length hi_20 hw) rfl (Nat.le_of_ble_eq_true rfl) ⟨Nat.le_refl _, Nat.le_refl _⟩ dX10_is_37 rfl (v_ki (fun z_1 h1 hv => ?_))
    clear hw
    obtain ⟨e9, hw⟩ := hv
    refine v_heap e9 ?_
    clear e9
    obtain ⟨hw_4, hw_5⟩ := hw
    refine v_icmp_ge (tgt := 69) dX10_is_40 (by decide) (fun c_2 => ?_) (fun c_3 => ?_)
    · have hw := hw_4 c_2
      refine v_iconst dX10_is_69 ic_1 ?_
      exact v_zret dX10_is_70 rfl rfl ⟨_, rfl, rfl, hw⟩
    · have hw := hw_5 c_3
      refine v_aload_n (q := 0) dX10_is_43 rfl rfl ?_
      refine v_aload_n (q := 0) dX10_is_44 rfl rfl ?_
      obtain ⟨fs_6, z_9, e_7, e_8, hw⟩ := hw
      refine v_get in_X10 (ci := 11) rfl 4 (Nat.le_of_ble_eq_true rfl) q658 rfl dX10_is_45 e_7 e_8 ?_
      refine v_iload_n (q := 2) dX10_is_48 rfl rfl ?_
      refine v_iadd dX10_is_49 ?_
      obtain ⟨fs_18, e_19, hw⟩ := hw
      refine v_callV q698 q700 qs12 q123 q701 (ci := 11) rfl e_19 n_X10_see ⟨Nat.le_of_ble_eq_true rfl, Nat.le_of_ble_eq_true rfl⟩ [.int (z_9 + x2)] [] (met_X10_see hw) rfl (Nat.zero_le _) ⟨Nat.le_refl _, Nat.le_refl _⟩ dX10_is_50 rfl (v_ki (fun z_10 h1 hv => ?_))
      clear hw
      obtain ⟨e9, hw⟩ := hv
      refine v_heap e9 ?_
      clear e9
      refine v_aload_n (q := 1) dX10_is_53 rfl rfl ?_
      refine v_iload_n (q := 2) dX10_is_54 rfl rfl ?_
      obtain ⟨hi_17, hw⟩ := hw
      refine v_callStr hi_17 q770 q771 q772 q125 q773 rfl n_J8_charAt ⟨Nat.le_of_ble_eq_true rfl, Nat.le_of_ble_eq_true rfl⟩ [.int x2] [.int z_10] (met_J8_charAt hi_17 hw) rfl (Nat.le_of_ble_eq_true rfl) ⟨Nat.le_refl _, Nat.le_refl _⟩ dX10_is_55 rfl (v_ki (fun z_11 h1 hv => ?_))
      clear hw
      obtain ⟨e9, hw⟩ := hv
      refine v_heap e9 ?_
      clear e9
      obtain ⟨hw_14, hw_15⟩ := hw
      refine v_icmp_eq (tgt := 63) dX10_is_58 (by decide) (fun c_12 => ?_) (fun c_13 => ?_)
      · have hw := hw_14 c_12
        obtain ⟨z_16, e_16⟩ : ∃ z9 : Int32, z9 = x2 + (nI 1) := ⟨_, rfl⟩
        replace hw := hw z_16 e_16
        refine v_iinc (q := 2) (v := z_16) (lv1 := [(2, .int z_16), (0, va_rf (some b0)), (1, va_rf (some (E.2.2.1 x1)))]) dX10_is_63 rfl (by rw [e_16, ic_1]) (Nat.le_of_ble_eq_true rfl) rfl ?_
        refine v_goto (tgt := 35) dX10_is_66 (by decide) ?_
        refine v_sub [1, 2, 0] rfl ?_
        exact ih z_16 hw
      · have hw := hw_15 c_13
        refine v_iconst dX10_is_61 ic_0 ?_
        exact v_zret dX10_is_62 rfl rfl ⟨_, rfl, rfl, hw⟩
theorem e_X10_is {post : (Int32) → Prop}   {b0 : Nat} {x1 : Nat} {h : AH}  (hw : w_X10_is post  b0 x1 h) : VV l E X cX10_is RX10 "is" 3 r_X10_is (some .boolean) (vpi (fun (r : Int32) (h' : AH) => h' = h ∧ post r)) h 0 0 0 [(0, va_rf (some b0)), (1, va_rf (some (E.2.2.1 x1)))] [] := by
  refine v_aload_n (q := 0) dX10_is_0 rfl rfl ?_
  obtain ⟨fs_21, z_24, e_22, e_23, hw⟩ := hw
  refine v_get in_X10 (ci := 11) rfl 8 (Nat.le_of_ble_eq_true rfl) q662 rfl dX10_is_1 e_22 e_23 ?_
  obtain ⟨hw_27, hw_28⟩ := hw
  refine v_if_ne (tgt := 31) dX10_is_4 (by decide) (fun c_25 => ?_) (fun c_26 => ?_)
  · have hw := hw_27 c_25
    refine v_iconst dX10_is_31 ic_0 ?_
    exact v_zret dX10_is_32 rfl rfl ⟨_, rfl, rfl, hw⟩
  · have hw := hw_28 c_26
    refine v_aload_n (q := 0) dX10_is_7 rfl rfl ?_
    obtain ⟨fs_29, z_32, e_30, e_31, hw⟩ := hw
    refine v_get in_X10 (ci := 11) rfl 5 (Nat.le_of_ble_eq_true rfl) q659 rfl dX10_is_8 e_30 e_31 ?_
    refine v_iconst dX10_is_11 ic_1 ?_
    obtain ⟨hw_35, hw_36⟩ := hw
    refine v_icmp_ne (tgt := 31) dX10_is_12 (by decide) (fun c_33 => ?_) (fun c_34 => ?_)
    · have hw := hw_35 c_33
      refine v_iconst dX10_is_31 ic_0 ?_
      exact v_zret dX10_is_32 rfl rfl ⟨_, rfl, rfl, hw⟩
    · have hw := hw_36 c_34
      refine v_aload_n (q := 0) dX10_is_15 rfl rfl ?_
      obtain ⟨fs_37, z_40, e_38, e_39, hw⟩ := hw
      refine v_get in_X10 (ci := 11) rfl 3 (Nat.le_of_ble_eq_true rfl) q657 rfl dX10_is_16 e_38 e_39 ?_
      refine v_aload_n (q := 0) dX10_is_19 rfl rfl ?_
      obtain ⟨fs_41, z_44, e_42, e_43, hw⟩ := hw
      refine v_get in_X10 (ci := 11) rfl 4 (Nat.le_of_ble_eq_true rfl) q658 rfl dX10_is_20 e_42 e_43 ?_
      refine v_isub dX10_is_23 ?_
      refine v_aload_n (q := 1) dX10_is_24 rfl rfl ?_
      obtain ⟨hi_51, hw⟩ := hw
      refine v_callStr hi_51 q760 q761 q762 q125 q763 rfl n_J8_length ⟨Nat.le_of_ble_eq_true rfl, Nat.le_of_ble_eq_true rfl⟩ [] [.int (z_40 - z_44)] (met_J8_length hi_51 hw) rfl (Nat.le_of_ble_eq_true rfl) ⟨Nat.le_refl _, Nat.le_refl _⟩ dX10_is_25 rfl (v_ki (fun z_45 h1 hv => ?_))
      clear hw
      obtain ⟨e9, hw⟩ := hv
      refine v_heap e9 ?_
      clear e9
      obtain ⟨hw_48, hw_49⟩ := hw
      refine v_icmp_eq (tgt := 33) dX10_is_28 (by decide) (fun c_46 => ?_) (fun c_47 => ?_)
      · have hw := hw_48 c_46
        refine v_iconst dX10_is_33 ic_0 ?_
        refine v_istore_n (lv1 := [(2, .int (nI 0)), (0, va_rf (some b0)), (1, va_rf (some (E.2.2.1 x1)))]) dX10_is_34 rfl (Nat.le_of_ble_eq_true rfl) rfl ?_
        obtain ⟨n_50, hw⟩ := hw
        refine v_sub [1, 2, 0] rfl ?_
        exact b_X10_is_35 n_50 (nI 0) hw
      · have hw := hw_49 c_47
        refine v_iconst dX10_is_31 ic_0 ?_
        exact v_zret dX10_is_32 rfl rfl ⟨_, rfl, rfl, hw⟩
theorem met_X10_is {post : (Int32) → Prop}   {b0 : Nat} {x1 : Nat} {h : AH}  (hw : w_X10_is post  b0 x1 h) : Mt l E yX10_is (ws_ yX10_is cX10_is 3 (some .boolean)) r_X10_is [va_rf (some b0), va_rf (some (E.2.2.1 x1))] h (vpi (fun (r : Int32) (h' : AH) => h' = h ∧ post r)) := v_entry (by decide +kernel) (Nat.le_of_ble_eq_true rfl) rfl (fun _ => e_X10_is hw)
/-! X10_takes -/
abbrev r_X10_takes : Room := { frames := 8, cells := 0, slots := 0, locals := 443 }
theorem n_X10_takes : vdn yX10_takes 1 := ⟨by decide +kernel, by decide +kernel, by decide +kernel⟩
def w_X10_takes_13 (post : (AH) → Prop) (b0 : Nat) (x1 : Nat) (h : AH) : Prop :=
 (∃ (fs_1 : List Value) (z_4 : Int32), h b0 = some (.inr (11, fs_1)) ∧ fs_1[8]? = some (.int z_4) ∧ ((¬ z_4 = 0 → (post h)) ∧ (z_4 = 0 → (∃ fs_10 : List Value, h b0 = some (.inr (11, fs_10)) ∧ (w_X10_next (fun (h_9 : AH) => (post h_9)) b0 h)))))
def w_X10_takes (post : (AH) → Prop) (b0 : Nat) (x1 : Nat) (h : AH) : Prop :=
 (∃ fs_20 : List Value, h b0 = some (.inr (11, fs_20)) ∧ (w_X10_is (fun (z_12 : Int32) => ((¬ z_12 = 0 → (w_X10_takes_13 post b0 x1 h)) ∧ (z_12 = 0 → (∃ fs_18 : List Value, h b0 = some (.inr (11, fs_18)) ∧ (w_X10_wrong (fun (h_17 : AH) => (w_X10_takes_13 post b0 x1 h_17)) b0 (nI 2) h))))) b0 x1 h))
theorem b_X10_takes_13 {post : (AH) → Prop}   {b0 : Nat} {x1 : Nat}    (h : AH) (hw : w_X10_takes_13 post b0 x1 h) : VV l E X cX10_takes RX10 "takes" 2 r_X10_takes none (vpv (fun (h' : AH) => post h')) h 0 0 13 [(0, va_rf (some b0)), (1, va_rf (some (E.2.2.1 x1)))] [] := by
  refine v_aload_n (q := 0) dX10_takes_13 rfl rfl ?_
  obtain ⟨fs_1, z_4, e_2, e_3, hw⟩ := hw
  refine v_get in_X10 (ci := 11) rfl 8 (Nat.le_of_ble_eq_true rfl) q662 rfl dX10_takes_14 e_2 e_3 ?_
  obtain ⟨hw_7, hw_8⟩ := hw
  refine v_if_ne (tgt := 24) dX10_takes_17 (by decide) (fun c_5 => ?_) (fun c_6 => ?_)
  · have hw := hw_7 c_5
    exact v_vret dX10_takes_24 rfl ⟨rfl, hw⟩
  · have hw := hw_8 c_6
    refine v_aload_n (q := 0) dX10_takes_20 rfl rfl ?_
    obtain ⟨fs_10, e_11, hw⟩ := hw
    refine v_callV q694 q696 qs11 q123 q697 (ci := 11) rfl e_11 n_X10_next ⟨Nat.le_of_ble_eq_true rfl, Nat.le_of_ble_eq_true rfl⟩ [] [] (met_X10_next hw) rfl (Nat.zero_le _) ⟨Nat.le_refl _, Nat.le_refl _⟩ dX10_takes_21 rfl (v_kv (fun h_9 hv => ?_))
    clear hw
    have hw := hv
    clear hv
    exact v_vret dX10_takes_24 rfl ⟨rfl, hw⟩
theorem e_X10_takes {post : (AH) → Prop}   {b0 : Nat} {x1 : Nat} {h : AH}  (hw : w_X10_takes post  b0 x1 h) : VV l E X cX10_takes RX10 "takes" 2 r_X10_takes none (vpv (fun (h' : AH) => post h')) h 0 0 0 [(0, va_rf (some b0)), (1, va_rf (some (E.2.2.1 x1)))] [] := by
  refine v_aload_n (q := 0) dX10_takes_0 rfl rfl ?_
  refine v_aload_n (q := 1) dX10_takes_1 rfl rfl ?_
  obtain ⟨fs_20, e_21, hw⟩ := hw
  refine v_callV q756 q758 qs19 q123 q759 (ci := 11) rfl e_21 n_X10_is ⟨Nat.le_of_ble_eq_true rfl, Nat.le_of_ble_eq_true rfl⟩ [va_rf (some (E.2.2.1 x1))] [] (met_X10_is hw) rfl (Nat.zero_le _) ⟨Nat.le_refl _, Nat.le_refl _⟩ dX10_takes_2 rfl (v_ki (fun z_12 h1 hv => ?_))
  clear hw
  obtain ⟨e9, hw⟩ := hv
  refine v_heap e9 ?_
  clear e9
  obtain ⟨hw_15, hw_16⟩ := hw
  refine v_if_ne (tgt := 13) dX10_takes_5 (by decide) (fun c_13 => ?_) (fun c_14 => ?_)
  · have hw := hw_15 c_13
    refine v_sub [0, 1] rfl ?_
    exact b_X10_takes_13 h hw
  · have hw := hw_16 c_14
    refine v_aload_n (q := 0) dX10_takes_8 rfl rfl ?_
    refine v_iconst dX10_takes_9 ic_2 ?_
    obtain ⟨fs_18, e_19, hw⟩ := hw
    refine v_callV q715 q717 qs15 q123 q718 (ci := 11) rfl e_19 n_X10_wrong ⟨Nat.le_of_ble_eq_true rfl, Nat.le_of_ble_eq_true rfl⟩ [.int (nI 2)] [] (met_X10_wrong hw) rfl (Nat.zero_le _) ⟨Nat.le_refl _, Nat.le_refl _⟩ dX10_takes_10 rfl (v_kv (fun h_17 hv => ?_))
    clear hw
    have hw := hv
    clear hv
    refine v_sub [0, 1] rfl ?_
    exact b_X10_takes_13 h_17 hw
theorem met_X10_takes {post : (AH) → Prop}   {b0 : Nat} {x1 : Nat} {h : AH}  (hw : w_X10_takes post  b0 x1 h) : Mt l E yX10_takes (ws_ yX10_takes cX10_takes 2 none) r_X10_takes [va_rf (some b0), va_rf (some (E.2.2.1 x1))] h (vpv (fun (h' : AH) => post h')) := v_entry (by decide +kernel) (Nat.le_of_ble_eq_true rfl) rfl (fun _ => e_X10_takes hw)
/-! X10_opens -/
abbrev r_X10_opens : Room := { frames := 3, cells := 0, slots := 0, locals := 67 }
theorem n_X10_opens : vdn yX10_opens 0 := ⟨by decide +kernel, by decide +kernel, by decide +kernel⟩
def w_X10_opens_14 (post : (AH) → Prop) (b0 : Nat) (h : AH) : Prop :=
 (∃ (fs_1 : List Value) (z_4 : Int32), h b0 = some (.inr (11, fs_1)) ∧ fs_1[7]? = some (.int z_4) ∧ (∃ fs_5 : List Value, h b0 = some (.inr (11, fs_5)) ∧ 7 < fs_5.length ∧ ∀ h_8 : AH, h_8 = va_up h b0 (some (.inr (11, fs_5.set 7 (.int (z_4 + (nI 1)))))) → (∃ (fs_9 : List Value) (z_12 : Int32), h_8 b0 = some (.inr (11, fs_9)) ∧ fs_9[8]? = some (.int z_12) ∧ ((¬ z_12 = 0 → (post h_8)) ∧ (z_12 = 0 → (∃ fs_18 : List Value, h_8 b0 = some (.inr (11, fs_18)) ∧ (w_X10_next (fun (h_17 : AH) => (post h_17)) b0 h_8)))))))
def w_X10_opens (post : (AH) → Prop) (b0 : Nat) (h : AH) : Prop :=
 (∃ (fs_20 : List Value) (z_23 : Int32), h b0 = some (.inr (11, fs_20)) ∧ fs_20[7]? = some (.int z_23) ∧ ((¬ z_23 = (nI 8) → (w_X10_opens_14 post b0 h)) ∧ (z_23 = (nI 8) → (∃ fs_29 : List Value, h b0 = some (.inr (11, fs_29)) ∧ (w_X10_wrong (fun (h_28 : AH) => (w_X10_opens_14 post b0 h_28)) b0 (nI 5) h)))))
theorem b_X10_opens_14 {post : (AH) → Prop}   {b0 : Nat}    (h : AH) (hw : w_X10_opens_14 post b0 h) : VV l E X cX10_opens RX10 "opens" 1 r_X10_opens none (vpv (fun (h' : AH) => post h')) h 0 0 14 [(0, va_rf (some b0))] [] := by
  refine v_aload_n (q := 0) dX10_opens_14 rfl rfl ?_
  refine v_dup dX10_opens_15 (v_rf1 _) ?_
  obtain ⟨fs_1, z_4, e_2, e_3, hw⟩ := hw
  refine v_get in_X10 (ci := 11) rfl 7 (Nat.le_of_ble_eq_true rfl) q661 rfl dX10_opens_16 e_2 e_3 ?_
  refine v_iconst dX10_opens_19 ic_1 ?_
  refine v_iadd dX10_opens_20 ?_
  obtain ⟨fs_5, e_6, e_7, hw⟩ := hw
  obtain ⟨h_8, eh_8⟩ : ∃ z9 : AH, z9 = va_up h b0 (some (.inr (11, fs_5.set 7 (.int (z_4 + (nI 1)))))) := ⟨_, rfl⟩
  replace hw := hw h_8 eh_8
  refine v_put in_X10 (ci := 11) rfl 7 (Nat.le_of_ble_eq_true rfl) tyX10 tyX10_ok nmX10 q661 rfl rfl rfl rfl rfl dX10_opens_21 e_6 e_7 ?_
  rw [← eh_8]
  refine v_aload_n (q := 0) dX10_opens_24 rfl rfl ?_
  obtain ⟨fs_9, z_12, e_10, e_11, hw⟩ := hw
  refine v_get in_X10 (ci := 11) rfl 8 (Nat.le_of_ble_eq_true rfl) q662 rfl dX10_opens_25 e_10 e_11 ?_
  obtain ⟨hw_15, hw_16⟩ := hw
  refine v_if_ne (tgt := 35) dX10_opens_28 (by decide) (fun c_13 => ?_) (fun c_14 => ?_)
  · have hw := hw_15 c_13
    exact v_vret dX10_opens_35 rfl ⟨rfl, hw⟩
  · have hw := hw_16 c_14
    refine v_aload_n (q := 0) dX10_opens_31 rfl rfl ?_
    obtain ⟨fs_18, e_19, hw⟩ := hw
    refine v_callV q694 q696 qs11 q123 q697 (ci := 11) rfl e_19 n_X10_next ⟨Nat.le_of_ble_eq_true rfl, Nat.le_of_ble_eq_true rfl⟩ [] [] (met_X10_next hw) rfl (Nat.zero_le _) ⟨Nat.le_refl _, Nat.le_refl _⟩ dX10_opens_32 rfl (v_kv (fun h_17 hv => ?_))
    clear hw
    have hw := hv
    clear hv
    exact v_vret dX10_opens_35 rfl ⟨rfl, hw⟩
theorem e_X10_opens {post : (AH) → Prop}   {b0 : Nat} {h : AH}  (hw : w_X10_opens post  b0 h) : VV l E X cX10_opens RX10 "opens" 1 r_X10_opens none (vpv (fun (h' : AH) => post h')) h 0 0 0 [(0, va_rf (some b0))] [] := by
  refine v_aload_n (q := 0) dX10_opens_0 rfl rfl ?_
  obtain ⟨fs_20, z_23, e_21, e_22, hw⟩ := hw
  refine v_get in_X10 (ci := 11) rfl 7 (Nat.le_of_ble_eq_true rfl) q661 rfl dX10_opens_1 e_21 e_22 ?_
  refine v_bipush dX10_opens_4 bp_8 ?_
  obtain ⟨hw_26, hw_27⟩ := hw
  refine v_icmp_ne (tgt := 14) dX10_opens_6 (by decide) (fun c_24 => ?_) (fun c_25 => ?_)
  · have hw := hw_26 c_24
    refine v_sub [0] rfl ?_
    exact b_X10_opens_14 h hw
  · have hw := hw_27 c_25
    refine v_aload_n (q := 0) dX10_opens_9 rfl rfl ?_
    refine v_iconst dX10_opens_10 ic_5 ?_
    obtain ⟨fs_29, e_30, hw⟩ := hw
    refine v_callV q715 q717 qs15 q123 q718 (ci := 11) rfl e_30 n_X10_wrong ⟨Nat.le_of_ble_eq_true rfl, Nat.le_of_ble_eq_true rfl⟩ [.int (nI 5)] [] (met_X10_wrong hw) rfl (Nat.zero_le _) ⟨Nat.le_refl _, Nat.le_refl _⟩ dX10_opens_11 rfl (v_kv (fun h_28 hv => ?_))
    clear hw
    have hw := hv
    clear hv
    refine v_sub [0] rfl ?_
    exact b_X10_opens_14 h_28 hw
theorem met_X10_opens {post : (AH) → Prop}   {b0 : Nat} {h : AH}  (hw : w_X10_opens post  b0 h) : Mt l E yX10_opens (ws_ yX10_opens cX10_opens 1 none) r_X10_opens [va_rf (some b0)] h (vpv (fun (h' : AH) => post h')) := v_entry (by decide +kernel) (Nat.le_of_ble_eq_true rfl) rfl (fun _ => e_X10_opens hw)
/-! X12_init -/
abbrev r_X12_init : Room := { frames := 1, cells := 0, slots := 0, locals := 20 }
theorem n_X12_init : vdn yX12_init 1 := ⟨by decide +kernel, by decide +kernel, by decide +kernel⟩
def w_X12_init (post : (AH) → Prop) (b0 : Nat) (x1 : Option Nat) (h : AH) : Prop :=
 (∃ fs_1 : List Value, h b0 = some (.inr (13, fs_1)) ∧ 0 < fs_1.length ∧ ∀ h_4 : AH, h_4 = va_up h b0 (some (.inr (13, fs_1.set 0 (va_rf x1)))) → (post h_4))
theorem e_X12_init {post : (AH) → Prop}   {b0 : Nat} {x1 : Option Nat} {h : AH}  (hw : w_X12_init post  b0 x1 h) : VV l E X cX12_init RX12 "<init>" 2 r_X12_init none (vpv (fun (h' : AH) => post h')) h 0 0 0 [(0, va_rf (some b0)), (1, va_rf x1)] [] := by
  refine v_aload_n (q := 0) dX12_init_0 rfl rfl ?_
  refine v_objInit q829 q154 q155 (Nat.zero_le _) (Nat.le_of_ble_eq_true rfl) (Nat.le_of_ble_eq_true rfl) dX12_init_1 ?_
  refine v_aload_n (q := 0) dX12_init_4 rfl rfl ?_
  refine v_aload_n (q := 1) dX12_init_5 rfl rfl ?_
  obtain ⟨fs_1, e_2, e_3, hw⟩ := hw
  obtain ⟨h_4, eh_4⟩ : ∃ z9 : AH, z9 = va_up h b0 (some (.inr (13, fs_1.set 0 (va_rf x1)))) := ⟨_, rfl⟩
  replace hw := hw h_4 eh_4
  refine v_putF in_X12 (ci := 13) rfl 0 (Nat.le_of_ble_eq_true rfl) tyX12 tyX12_ok nmX12 q830 rfl rfl rfl rfl rfl (v_rfn _ _).1 (v_rfn _ _).2 dX12_init_6 e_2 e_3 ?_
  rw [← eh_4]
  exact v_vret dX12_init_9 rfl ⟨rfl, hw⟩
theorem met_X12_init {post : (AH) → Prop}   {b0 : Nat} {x1 : Option Nat} {h : AH}  (hw : w_X12_init post  b0 x1 h) : Mt l E yX12_init (ws_ yX12_init cX12_init 2 none) r_X12_init [va_rf (some b0), va_rf x1] h (vpv (fun (h' : AH) => post h')) := v_entry (by decide +kernel) (by cases x1 <;> exact (Nat.le_of_ble_eq_true rfl)) (by cases x1 <;> exact rfl) (fun _ => e_X12_init hw)
/-! X13_init -/
abbrev r_X13_init : Room := { frames := 1, cells := 0, slots := 0, locals := 20 }
theorem n_X13_init : vdn yX13_init 1 := ⟨by decide +kernel, by decide +kernel, by decide +kernel⟩
def w_X13_init (post : (AH) → Prop) (b0 : Nat) (x1 : Int32) (h : AH) : Prop :=
 (∃ fs_1 : List Value, h b0 = some (.inr (14, fs_1)) ∧ 0 < fs_1.length ∧ ∀ h_4 : AH, h_4 = va_up h b0 (some (.inr (14, fs_1.set 0 (.int x1)))) → (post h_4))
theorem e_X13_init {post : (AH) → Prop}   {b0 : Nat} {x1 : Int32} {h : AH}  (hw : w_X13_init post  b0 x1 h) : VV l E X cX13_init RX13 "<init>" 2 r_X13_init none (vpv (fun (h' : AH) => post h')) h 0 0 0 [(0, va_rf (some b0)), (1, .int x1)] [] := by
  refine v_aload_n (q := 0) dX13_init_0 rfl rfl ?_
  refine v_objInit q840 q154 q155 (Nat.zero_le _) (Nat.le_of_ble_eq_true rfl) (Nat.le_of_ble_eq_true rfl) dX13_init_1 ?_
  refine v_aload_n (q := 0) dX13_init_4 rfl rfl ?_
  refine v_iload_n (q := 1) dX13_init_5 rfl rfl ?_
  obtain ⟨fs_1, e_2, e_3, hw⟩ := hw
  obtain ⟨h_4, eh_4⟩ : ∃ z9 : AH, z9 = va_up h b0 (some (.inr (14, fs_1.set 0 (.int x1)))) := ⟨_, rfl⟩
  replace hw := hw h_4 eh_4
  refine v_putF in_X13 (ci := 14) rfl 0 (Nat.le_of_ble_eq_true rfl) tyX13 tyX13_ok nmX13 q841 rfl rfl rfl rfl rfl rfl rfl dX13_init_6 e_2 e_3 ?_
  rw [← eh_4]
  exact v_vret dX13_init_9 rfl ⟨rfl, hw⟩
theorem met_X13_init {post : (AH) → Prop}   {b0 : Nat} {x1 : Int32} {h : AH}  (hw : w_X13_init post  b0 x1 h) : Mt l E yX13_init (ws_ yX13_init cX13_init 2 none) r_X13_init [va_rf (some b0), .int x1] h (vpv (fun (h' : AH) => post h')) := v_entry (by decide +kernel) (Nat.le_of_ble_eq_true rfl) rfl (fun _ => e_X13_init hw)
/-! X14_init -/
abbrev r_X14_init : Room := { frames := 1, cells := 0, slots := 0, locals := 20 }
theorem n_X14_init : vdn yX14_init 1 := ⟨by decide +kernel, by decide +kernel, by decide +kernel⟩
def w_X14_init (post : (AH) → Prop) (b0 : Nat) (x1 : Int32) (h : AH) : Prop :=
 (∃ fs_1 : List Value, h b0 = some (.inr (15, fs_1)) ∧ 0 < fs_1.length ∧ ∀ h_4 : AH, h_4 = va_up h b0 (some (.inr (15, fs_1.set 0 (.int x1)))) → (post h_4))
theorem e_X14_init {post : (AH) → Prop}   {b0 : Nat} {x1 : Int32} {h : AH}  (hw : w_X14_init post  b0 x1 h) : VV l E X cX14_init RX14 "<init>" 2 r_X14_init none (vpv (fun (h' : AH) => post h')) h 0 0 0 [(0, va_rf (some b0)), (1, .int x1)] [] := by
  refine v_aload_n (q := 0) dX14_init_0 rfl rfl ?_
  refine v_objInit q851 q154 q155 (Nat.zero_le _) (Nat.le_of_ble_eq_true rfl) (Nat.le_of_ble_eq_true rfl) dX14_init_1 ?_
  refine v_aload_n (q := 0) dX14_init_4 rfl rfl ?_
  refine v_iload_n (q := 1) dX14_init_5 rfl rfl ?_
  obtain ⟨fs_1, e_2, e_3, hw⟩ := hw
  obtain ⟨h_4, eh_4⟩ : ∃ z9 : AH, z9 = va_up h b0 (some (.inr (15, fs_1.set 0 (.int x1)))) := ⟨_, rfl⟩
  replace hw := hw h_4 eh_4
  refine v_putF in_X14 (ci := 15) rfl 0 (Nat.le_of_ble_eq_true rfl) tyX14 tyX14_ok nmX14 q852 rfl rfl rfl rfl rfl rfl rfl dX14_init_6 e_2 e_3 ?_
  rw [← eh_4]
  exact v_vret dX14_init_9 rfl ⟨rfl, hw⟩
theorem met_X14_init {post : (AH) → Prop}   {b0 : Nat} {x1 : Int32} {h : AH}  (hw : w_X14_init post  b0 x1 h) : Mt l E yX14_init (ws_ yX14_init cX14_init 2 none) r_X14_init [va_rf (some b0), .int x1] h (vpv (fun (h' : AH) => post h')) := v_entry (by decide +kernel) (Nat.le_of_ble_eq_true rfl) rfl (fun _ => e_X14_init hw)
/-! X15_init -/
abbrev r_X15_init : Room := { frames := 1, cells := 0, slots := 0, locals := 20 }
theorem n_X15_init : vdn yX15_init 1 := ⟨by decide +kernel, by decide +kernel, by decide +kernel⟩
def w_X15_init (post : (AH) → Prop) (b0 : Nat) (x1 : Int32) (h : AH) : Prop :=
 (∃ fs_1 : List Value, h b0 = some (.inr (16, fs_1)) ∧ 0 < fs_1.length ∧ ∀ h_4 : AH, h_4 = va_up h b0 (some (.inr (16, fs_1.set 0 (.int x1)))) → (post h_4))
theorem e_X15_init {post : (AH) → Prop}   {b0 : Nat} {x1 : Int32} {h : AH}  (hw : w_X15_init post  b0 x1 h) : VV l E X cX15_init RX15 "<init>" 2 r_X15_init none (vpv (fun (h' : AH) => post h')) h 0 0 0 [(0, va_rf (some b0)), (1, .int x1)] [] := by
  refine v_aload_n (q := 0) dX15_init_0 rfl rfl ?_
  refine v_objInit q862 q154 q155 (Nat.zero_le _) (Nat.le_of_ble_eq_true rfl) (Nat.le_of_ble_eq_true rfl) dX15_init_1 ?_
  refine v_aload_n (q := 0) dX15_init_4 rfl rfl ?_
  refine v_iload_n (q := 1) dX15_init_5 rfl rfl ?_
  obtain ⟨fs_1, e_2, e_3, hw⟩ := hw
  obtain ⟨h_4, eh_4⟩ : ∃ z9 : AH, z9 = va_up h b0 (some (.inr (16, fs_1.set 0 (.int x1)))) := ⟨_, rfl⟩
  replace hw := hw h_4 eh_4
  refine v_putF in_X15 (ci := 16) rfl 0 (Nat.le_of_ble_eq_true rfl) tyX15 tyX15_ok nmX15 q863 rfl rfl rfl rfl rfl rfl rfl dX15_init_6 e_2 e_3 ?_
  rw [← eh_4]
  exact v_vret dX15_init_9 rfl ⟨rfl, hw⟩
theorem met_X15_init {post : (AH) → Prop}   {b0 : Nat} {x1 : Int32} {h : AH}  (hw : w_X15_init post  b0 x1 h) : Mt l E yX15_init (ws_ yX15_init cX15_init 2 none) r_X15_init [va_rf (some b0), .int x1] h (vpv (fun (h' : AH) => post h')) := v_entry (by decide +kernel) (Nat.le_of_ble_eq_true rfl) rfl (fun _ => e_X15_init hw)
/-! X16_init -/
abbrev r_X16_init : Room := { frames := 1, cells := 0, slots := 0, locals := 20 }
theorem n_X16_init : vdn yX16_init 3 := ⟨by decide +kernel, by decide +kernel, by decide +kernel⟩
def w_X16_init (post : (AH) → Prop) (b0 : Nat) (x1 : Int32) (x2 : Option Nat) (x3 : Option Nat) (h : AH) : Prop :=
 (∃ fs_1 : List Value, h b0 = some (.inr (17, fs_1)) ∧ 0 < fs_1.length ∧ (x1 = nI 0 ∨ x1 = nI 1) ∧ ∀ h_4 : AH, h_4 = va_up h b0 (some (.inr (17, fs_1.set 0 (.int x1)))) → (∃ fs_6 : List Value, h_4 b0 = some (.inr (17, fs_6)) ∧ 1 < fs_6.length ∧ ∀ h_9 : AH, h_9 = va_up h_4 b0 (some (.inr (17, fs_6.set 1 (va_rf x2)))) → (∃ fs_10 : List Value, h_9 b0 = some (.inr (17, fs_10)) ∧ 2 < fs_10.length ∧ ∀ h_13 : AH, h_13 = va_up h_9 b0 (some (.inr (17, fs_10.set 2 (va_rf x3)))) → (post h_13))))
theorem e_X16_init {post : (AH) → Prop}   {b0 : Nat} {x1 : Int32} {x2 : Option Nat} {x3 : Option Nat} {h : AH}  (hw : w_X16_init post  b0 x1 x2 x3 h) : VV l E X cX16_init RX16 "<init>" 4 r_X16_init none (vpv (fun (h' : AH) => post h')) h 0 0 0 [(0, va_rf (some b0)), (1, .int x1), (2, va_rf x2), (3, va_rf x3)] [] := by
  refine v_aload_n (q := 0) dX16_init_0 rfl rfl ?_
  refine v_objInit q873 q154 q155 (Nat.zero_le _) (Nat.le_of_ble_eq_true rfl) (Nat.le_of_ble_eq_true rfl) dX16_init_1 ?_
  refine v_aload_n (q := 0) dX16_init_4 rfl rfl ?_
  refine v_iload_n (q := 1) dX16_init_5 rfl rfl ?_
  obtain ⟨fs_1, e_2, e_3, hw⟩ := hw
  obtain ⟨hn_5, hw⟩ := hw
  obtain ⟨h_4, eh_4⟩ : ∃ z9 : AH, z9 = va_up h b0 (some (.inr (17, fs_1.set 0 (.int x1)))) := ⟨_, rfl⟩
  replace hw := hw h_4 eh_4
  refine v_putF in_X16 (ci := 17) rfl 0 (Nat.le_of_ble_eq_true rfl) tyX16 tyX16_ok nmX16 q874 rfl rfl rfl rfl rfl (v_z1 hn_5).1 (v_z1 hn_5).2 dX16_init_6 e_2 e_3 ?_
  rw [← eh_4]
  refine v_aload_n (q := 0) dX16_init_9 rfl rfl ?_
  refine v_aload_n (q := 2) dX16_init_10 rfl rfl ?_
  obtain ⟨fs_6, e_7, e_8, hw⟩ := hw
  obtain ⟨h_9, eh_9⟩ : ∃ z9 : AH, z9 = va_up h_4 b0 (some (.inr (17, fs_6.set 1 (va_rf x2)))) := ⟨_, rfl⟩
  replace hw := hw h_9 eh_9
  refine v_putF in_X16 (ci := 17) rfl 1 (Nat.le_of_ble_eq_true rfl) tyX16 tyX16_ok nmX16 q875 rfl rfl rfl rfl rfl (v_rfn _ _).1 (v_rfn _ _).2 dX16_init_11 e_7 e_8 ?_
  rw [← eh_9]
  refine v_aload_n (q := 0) dX16_init_14 rfl rfl ?_
  refine v_aload_n (q := 3) dX16_init_15 rfl rfl ?_
  obtain ⟨fs_10, e_11, e_12, hw⟩ := hw
  obtain ⟨h_13, eh_13⟩ : ∃ z9 : AH, z9 = va_up h_9 b0 (some (.inr (17, fs_10.set 2 (va_rf x3)))) := ⟨_, rfl⟩
  replace hw := hw h_13 eh_13
  refine v_putF in_X16 (ci := 17) rfl 2 (Nat.le_of_ble_eq_true rfl) tyX16 tyX16_ok nmX16 q876 rfl rfl rfl rfl rfl (v_rfn _ _).1 (v_rfn _ _).2 dX16_init_16 e_11 e_12 ?_
  rw [← eh_13]
  exact v_vret dX16_init_19 rfl ⟨rfl, hw⟩
theorem met_X16_init {post : (AH) → Prop}   {b0 : Nat} {x1 : Int32} {x2 : Option Nat} {x3 : Option Nat} {h : AH}  (hw : w_X16_init post  b0 x1 x2 x3 h) : Mt l E yX16_init (ws_ yX16_init cX16_init 4 none) r_X16_init [va_rf (some b0), .int x1, va_rf x2, va_rf x3] h (vpv (fun (h' : AH) => post h')) := v_entry (by decide +kernel) (by cases x2 <;> cases x3 <;> exact (Nat.le_of_ble_eq_true rfl)) (by cases x2 <;> cases x3 <;> exact rfl) (fun _ => e_X16_init hw)
/-! X10_over -/
abbrev r_X10_over : Room := { frames := 3, cells := 0, slots := 0, locals := 67 }
theorem n_X10_over : vdn yX10_over 0 := ⟨by decide +kernel, by decide +kernel, by decide +kernel⟩
def w_X10_over_21 (post : (AH) → Prop) (b0 : Nat) (h : AH) : Prop :=
 (∃ (fs_1 : List Value) (z_4 : Int32), h b0 = some (.inr (11, fs_1)) ∧ fs_1[8]? = some (.int z_4) ∧ ((¬ z_4 = 0 → (post h)) ∧ (z_4 = 0 → (∃ fs_10 : List Value, h b0 = some (.inr (11, fs_10)) ∧ (w_X10_next (fun (h_9 : AH) => (post h_9)) b0 h)))))
def w_X10_over (post : (AH) → Prop) (b0 : Nat) (h : AH) : Prop :=
 (∃ (fs_12 : List Value) (z_15 : Int32), h b0 = some (.inr (11, fs_12)) ∧ fs_12[8]? = some (.int z_15) ∧ ((¬ z_15 = 0 → (w_X10_over_21 post b0 h)) ∧ (z_15 = 0 → (∃ (fs_20 : List Value) (z_23 : Int32), h b0 = some (.inr (11, fs_20)) ∧ fs_20[5]? = some (.int z_23) ∧ ((z_23 = (nI 59) → (w_X10_over_21 post b0 h)) ∧ (¬ z_23 = (nI 59) → (∃ fs_29 : List Value, h b0 = some (.inr (11, fs_29)) ∧ (w_X10_wrong (fun (h_28 : AH) => (w_X10_over_21 post b0 h_28)) b0 (nI 2) h))))))))
theorem b_X10_over_21 {post : (AH) → Prop}   {b0 : Nat}    (h : AH) (hw : w_X10_over_21 post b0 h) : VV l E X cX10_over RX10 "over" 1 r_X10_over none (vpv (fun (h' : AH) => post h')) h 0 0 21 [(0, va_rf (some b0))] [] := by
  refine v_aload_n (q := 0) dX10_over_21 rfl rfl ?_
  obtain ⟨fs_1, z_4, e_2, e_3, hw⟩ := hw
  refine v_get in_X10 (ci := 11) rfl 8 (Nat.le_of_ble_eq_true rfl) q662 rfl dX10_over_22 e_2 e_3 ?_
  obtain ⟨hw_7, hw_8⟩ := hw
  refine v_if_ne (tgt := 32) dX10_over_25 (by decide) (fun c_5 => ?_) (fun c_6 => ?_)
  · have hw := hw_7 c_5
    exact v_vret dX10_over_32 rfl ⟨rfl, hw⟩
  · have hw := hw_8 c_6
    refine v_aload_n (q := 0) dX10_over_28 rfl rfl ?_
    obtain ⟨fs_10, e_11, hw⟩ := hw
    refine v_callV q694 q696 qs11 q123 q697 (ci := 11) rfl e_11 n_X10_next ⟨Nat.le_of_ble_eq_true rfl, Nat.le_of_ble_eq_true rfl⟩ [] [] (met_X10_next hw) rfl (Nat.zero_le _) ⟨Nat.le_refl _, Nat.le_refl _⟩ dX10_over_29 rfl (v_kv (fun h_9 hv => ?_))
    clear hw
    have hw := hv
    clear hv
    exact v_vret dX10_over_32 rfl ⟨rfl, hw⟩
theorem e_X10_over {post : (AH) → Prop}   {b0 : Nat} {h : AH}  (hw : w_X10_over post  b0 h) : VV l E X cX10_over RX10 "over" 1 r_X10_over none (vpv (fun (h' : AH) => post h')) h 0 0 0 [(0, va_rf (some b0))] [] := by
  refine v_aload_n (q := 0) dX10_over_0 rfl rfl ?_
  obtain ⟨fs_12, z_15, e_13, e_14, hw⟩ := hw
  refine v_get in_X10 (ci := 11) rfl 8 (Nat.le_of_ble_eq_true rfl) q662 rfl dX10_over_1 e_13 e_14 ?_
  obtain ⟨hw_18, hw_19⟩ := hw
  refine v_if_ne (tgt := 21) dX10_over_4 (by decide) (fun c_16 => ?_) (fun c_17 => ?_)
  · have hw := hw_18 c_16
    refine v_sub [0] rfl ?_
    exact b_X10_over_21 h hw
  · have hw := hw_19 c_17
    refine v_aload_n (q := 0) dX10_over_7 rfl rfl ?_
    obtain ⟨fs_20, z_23, e_21, e_22, hw⟩ := hw
    refine v_get in_X10 (ci := 11) rfl 5 (Nat.le_of_ble_eq_true rfl) q659 rfl dX10_over_8 e_21 e_22 ?_
    refine v_bipush dX10_over_11 bp_59 ?_
    obtain ⟨hw_26, hw_27⟩ := hw
    refine v_icmp_eq (tgt := 21) dX10_over_13 (by decide) (fun c_24 => ?_) (fun c_25 => ?_)
    · have hw := hw_26 c_24
      refine v_sub [0] rfl ?_
      exact b_X10_over_21 h hw
    · have hw := hw_27 c_25
      refine v_aload_n (q := 0) dX10_over_16 rfl rfl ?_
      refine v_iconst dX10_over_17 ic_2 ?_
      obtain ⟨fs_29, e_30, hw⟩ := hw
      refine v_callV q715 q717 qs15 q123 q718 (ci := 11) rfl e_30 n_X10_wrong ⟨Nat.le_of_ble_eq_true rfl, Nat.le_of_ble_eq_true rfl⟩ [.int (nI 2)] [] (met_X10_wrong hw) rfl (Nat.zero_le _) ⟨Nat.le_refl _, Nat.le_refl _⟩ dX10_over_18 rfl (v_kv (fun h_28 hv => ?_))
      clear hw
      have hw := hv
      clear hv
      refine v_sub [0] rfl ?_
      exact b_X10_over_21 h_28 hw
theorem met_X10_over {post : (AH) → Prop}   {b0 : Nat} {h : AH}  (hw : w_X10_over post  b0 h) : Mt l E yX10_over (ws_ yX10_over cX10_over 1 none) r_X10_over [va_rf (some b0)] h (vpv (fun (h' : AH) => post h')) := v_entry (by decide +kernel) (Nat.le_of_ble_eq_true rfl) rfl (fun _ => e_X10_over hw)
/-! X10_way -/
abbrev r_X10_way : Room := { frames := 9, cells := 0, slots := 0, locals := 464 }
theorem n_X10_way : vdn yX10_way 0 := ⟨by decide +kernel, by decide +kernel, by decide +kernel⟩
def w_X10_way (post : (AH) → Prop) (b0 : Nat) (h : AH) : Prop :=
 (∃ fs_114 : List Value, h b0 = some (.inr (11, fs_114)) ∧ (w_X10_is (fun (z_1 : Int32) => (∃ fs_112 : List Value, h b0 = some (.inr (11, fs_112)) ∧ (w_X10_is (fun (z_2 : Int32) => (∃ fs_110 : List Value, h b0 = some (.inr (11, fs_110)) ∧ (w_X10_is (fun (z_3 : Int32) => (∃ fs_108 : List Value, h b0 = some (.inr (11, fs_108)) ∧ (w_X10_next (fun (h_4 : AH) => ((z_1 = 0 → ((z_2 = 0 → ((z_3 = 0 → (∃ fs_67 : List Value, h_4 b0 = some (.inr (11, fs_67)) ∧ (w_X10_number (fun (z_17 : Int32) (h_18 : AH) => (∃ fs_65 : List Value, h_18 b0 = some (.inr (11, fs_65)) ∧ (w_X10_takes (fun (h_19 : AH) => (∃ fs_63 : List Value, h_19 b0 = some (.inr (11, fs_63)) ∧ (w_X10_number (fun (z_20 : Int32) (h_21 : AH) => (∃ (fs_22 : List Value) (z_25 : Int32), h_21 b0 = some (.inr (11, fs_22)) ∧ fs_22[8]? = some (.int z_25) ∧ ((¬ z_25 = 0 → (post h_21)) ∧ (z_25 = 0 → (∃ (fs_30 : List Value) (r_33 : Option Nat), h_21 b0 = some (.inr (11, fs_30)) ∧ fs_30[2]? = some (va_rf r_33) ∧ (∃ a_34 : Nat, r_33 = some a_34 ∧ (∃ (fs_35 : List Value) (r_38 : Option Nat), h_21 a_34 = some (.inr (3, fs_35)) ∧ fs_35[4]? = some (va_rf r_38) ∧ (∃ a_39 : Nat, r_38 = some a_39 ∧ (∃ (N_40 : Nat) (g_41 : Nat → Int32), h_21 a_39 = some (.inl (0, N_40, .inl g_41)) ∧ vp_in z_20 N_40 ∧ ((¬ (g_41 (z_20).toNatClampNeg) = 0 → (post h_21)) ∧ ((g_41 (z_20).toNatClampNeg) = 0 → (∃ (fs_48 : List Value) (r_51 : Option Nat), h_21 b0 = some (.inr (11, fs_48)) ∧ fs_48[2]? = some (va_rf r_51) ∧ (∃ a_52 : Nat, r_51 = some a_52 ∧ (∃ (fs_53 : List Value) (r_56 : Option Nat), h_21 a_52 = some (.inr (3, fs_53)) ∧ fs_53[4]? = some (va_rf r_56) ∧ (∃ a_57 : Nat, r_56 = some a_57 ∧ (∃ (N_58 : Nat) (g_59 : Nat → Int32), h_21 a_57 = some (.inl (0, N_58, .inl g_59)) ∧ vp_in z_20 N_58 ∧ ∀ h_62 : AH, h_62 = va_up h_21 a_57 (some (.inl (0, N_58, .inl (upd g_59 (z_20).toNatClampNeg z_17)))) → (post h_62))))))))))))))))) b0 (nI 1) (nI 255) h_19))) b0 12 h_18))) b0 (nI 1) (nI 255) h_4))) ∧ (¬ z_3 = 0 → (∃ (fs_69 : List Value) (r_72 : Option Nat), h_4 b0 = some (.inr (11, fs_69)) ∧ fs_69[2]? = some (va_rf r_72) ∧ (∃ fs_80 : List Value, h_4 b0 = some (.inr (11, fs_80)) ∧ (w_X10_number (fun (z_73 : Int32) (h_74 : AH) => (∃ a_75 : Nat, r_72 = some a_75 ∧ (∃ fs_76 : List Value, h_74 a_75 = some (.inr (3, fs_76)) ∧ 2 < fs_76.length ∧ ∀ h_79 : AH, h_79 = va_up h_74 a_75 (some (.inr (3, fs_76.set 2 (.int z_73)))) → (post h_79)))) b0 (nI 0) (nI 99) h_4)))))) ∧ (¬ z_2 = 0 → (∃ (fs_82 : List Value) (r_85 : Option Nat), h_4 b0 = some (.inr (11, fs_82)) ∧ fs_82[2]? = some (va_rf r_85) ∧ (∃ fs_93 : List Value, h_4 b0 = some (.inr (11, fs_93)) ∧ (w_X10_number (fun (z_86 : Int32) (h_87 : AH) => (∃ a_88 : Nat, r_85 = some a_88 ∧ (∃ fs_89 : List Value, h_87 a_88 = some (.inr (3, fs_89)) ∧ 1 < fs_89.length ∧ ∀ h_92 : AH, h_92 = va_up h_87 a_88 (some (.inr (3, fs_89.set 1 (.int z_86)))) → (post h_92)))) b0 (nI 0) (nI 99) h_4)))))) ∧ (¬ z_1 = 0 → (∃ (fs_95 : List Value) (r_98 : Option Nat), h_4 b0 = some (.inr (11, fs_95)) ∧ fs_95[2]? = some (va_rf r_98) ∧ (∃ fs_106 : List Value, h_4 b0 = some (.inr (11, fs_106)) ∧ (w_X10_number (fun (z_99 : Int32) (h_100 : AH) => (∃ a_101 : Nat, r_98 = some a_101 ∧ (∃ fs_102 : List Value, h_100 a_101 = some (.inr (3, fs_102)) ∧ 0 < fs_102.length ∧ ∀ h_105 : AH, h_105 = va_up h_100 a_101 (some (.inr (3, fs_102.set 0 (.int z_99)))) → (post h_105)))) b0 (nI 0) (nI 99) h_4)))))) b0 h))) b0 10 h))) b0 9 h))) b0 8 h))
theorem e_X10_way {post : (AH) → Prop}   {b0 : Nat} {h : AH}  (hw : w_X10_way post  b0 h) : VV l E X cX10_way RX10 "way" 6 r_X10_way none (vpv (fun (h' : AH) => post h')) h 0 0 0 [(0, va_rf (some b0))] [] := by
  refine v_aload_n (q := 0) dX10_way_0 rfl rfl ?_
  refine v_ldcS dX10_way_1 (i := 8) rfl ?_
  obtain ⟨fs_114, e_115, hw⟩ := hw
  refine v_callV q756 q758 qs19 q123 q759 (ci := 11) rfl e_115 n_X10_is ⟨Nat.le_of_ble_eq_true rfl, Nat.le_of_ble_eq_true rfl⟩ [va_rf (some (E.2.2.1 8))] [] (met_X10_is hw) rfl (Nat.zero_le _) ⟨Nat.le_refl _, Nat.le_refl _⟩ dX10_way_3 rfl (v_ki (fun z_1 h1 hv => ?_))
  clear hw
  obtain ⟨e9, hw⟩ := hv
  refine v_heap e9 ?_
  clear e9
  refine v_istore_n (lv1 := [(1, .int z_1), (0, va_rf (some b0))]) dX10_way_6 rfl (Nat.le_of_ble_eq_true rfl) rfl ?_
  refine v_aload_n (q := 1) dX10_way_7 rfl rfl ?_
  refine v_ldcS dX10_way_8 (i := 9) rfl ?_
  obtain ⟨fs_112, e_113, hw⟩ := hw
  refine v_callV q756 q758 qs19 q123 q759 (ci := 11) rfl e_113 n_X10_is ⟨Nat.le_of_ble_eq_true rfl, Nat.le_of_ble_eq_true rfl⟩ [va_rf (some (E.2.2.1 9))] [] (met_X10_is hw) rfl (Nat.zero_le _) ⟨Nat.le_refl _, Nat.le_refl _⟩ dX10_way_10 rfl (v_ki (fun z_2 h1 hv => ?_))
  clear hw
  obtain ⟨e9, hw⟩ := hv
  refine v_heap e9 ?_
  clear e9
  refine v_istore_n (lv1 := [(2, .int z_2), (1, .int z_1), (0, va_rf (some b0))]) dX10_way_13 rfl (Nat.le_of_ble_eq_true rfl) rfl ?_
  refine v_aload_n (q := 2) dX10_way_14 rfl rfl ?_
  refine v_ldcS dX10_way_15 (i := 10) rfl ?_
  obtain ⟨fs_110, e_111, hw⟩ := hw
  refine v_callV q756 q758 qs19 q123 q759 (ci := 11) rfl e_111 n_X10_is ⟨Nat.le_of_ble_eq_true rfl, Nat.le_of_ble_eq_true rfl⟩ [va_rf (some (E.2.2.1 10))] [] (met_X10_is hw) rfl (Nat.zero_le _) ⟨Nat.le_refl _, Nat.le_refl _⟩ dX10_way_17 rfl (v_ki (fun z_3 h1 hv => ?_))
  clear hw
  obtain ⟨e9, hw⟩ := hv
  refine v_heap e9 ?_
  clear e9
  refine v_istore_n (lv1 := [(3, .int z_3), (2, .int z_2), (1, .int z_1), (0, va_rf (some b0))]) dX10_way_20 rfl (Nat.le_of_ble_eq_true rfl) rfl ?_
  refine v_aload_n (q := 3) dX10_way_21 rfl rfl ?_
  obtain ⟨fs_108, e_109, hw⟩ := hw
  refine v_callV q694 q696 qs11 q123 q697 (ci := 11) rfl e_109 n_X10_next ⟨Nat.le_of_ble_eq_true rfl, Nat.le_of_ble_eq_true rfl⟩ [] [] (met_X10_next hw) rfl (Nat.zero_le _) ⟨Nat.le_refl _, Nat.le_refl _⟩ dX10_way_22 rfl (v_kv (fun h_4 hv => ?_))
  clear hw
  have hw := hv
  clear hv
  refine v_iload_n (q := 2) dX10_way_25 rfl rfl ?_
  obtain ⟨hw_7, hw_8⟩ := hw
  refine v_if_eq (tgt := 46) dX10_way_26 (by decide) (fun c_5 => ?_) (fun c_6 => ?_)
  · have hw := hw_7 c_5
    refine v_iload_n (q := 1) dX10_way_46 rfl rfl ?_
    obtain ⟨hw_11, hw_12⟩ := hw
    refine v_if_eq (tgt := 67) dX10_way_47 (by decide) (fun c_9 => ?_) (fun c_10 => ?_)
    · have hw := hw_11 c_9
      refine v_iload_n (q := 0) dX10_way_67 rfl rfl ?_
      obtain ⟨hw_15, hw_16⟩ := hw
      refine v_if_eq (tgt := 88) dX10_way_68 (by decide) (fun c_13 => ?_) (fun c_14 => ?_)
      · have hw := hw_15 c_13
        refine v_aload_n (q := 3) dX10_way_88 rfl rfl ?_
        refine v_iconst dX10_way_89 ic_1 ?_
        refine v_sipush dX10_way_90 sp_255 ?_
        obtain ⟨fs_67, e_68, hw⟩ := hw
        refine v_callV q746 q748 qs17 q123 q749 (ci := 11) rfl e_68 n_X10_number ⟨Nat.le_of_ble_eq_true rfl, Nat.le_of_ble_eq_true rfl⟩ [.int (nI 1), .int (nI 255)] [] (met_X10_number hw) rfl (Nat.zero_le _) ⟨Nat.le_refl _, Nat.le_refl _⟩ dX10_way_93 rfl (v_ki (fun z_17 h_18 hv => ?_))
        clear hw
        have hw := hv
        clear hv
        refine v_istore (lv1 := [(4, .int z_17), (3, .int z_3), (2, .int z_2), (1, .int z_1), (0, va_rf (some b0))]) dX10_way_96 (Nat.le_of_ble_eq_true rfl) rfl ?_
        refine v_aload_n (q := 4) dX10_way_98 rfl rfl ?_
        refine v_ldcS dX10_way_99 (i := 12) rfl ?_
        obtain ⟨fs_65, e_66, hw⟩ := hw
        refine v_callV q752 q754 qs18 q123 q755 (ci := 11) rfl e_66 n_X10_takes ⟨Nat.le_of_ble_eq_true rfl, Nat.le_of_ble_eq_true rfl⟩ [va_rf (some (E.2.2.1 12))] [] (met_X10_takes hw) rfl (Nat.zero_le _) ⟨Nat.le_refl _, Nat.le_refl _⟩ dX10_way_101 rfl (v_kv (fun h_19 hv => ?_))
        clear hw
        have hw := hv
        clear hv
        refine v_aload_n (q := 4) dX10_way_104 rfl rfl ?_
        refine v_iconst dX10_way_105 ic_1 ?_
        refine v_sipush dX10_way_106 sp_255 ?_
        obtain ⟨fs_63, e_64, hw⟩ := hw
        refine v_callV q746 q748 qs17 q123 q749 (ci := 11) rfl e_64 n_X10_number ⟨Nat.le_of_ble_eq_true rfl, Nat.le_of_ble_eq_true rfl⟩ [.int (nI 1), .int (nI 255)] [] (met_X10_number hw) rfl (Nat.zero_le _) ⟨Nat.le_refl _, Nat.le_refl _⟩ dX10_way_109 rfl (v_ki (fun z_20 h_21 hv => ?_))
        clear hw
        have hw := hv
        clear hv
        refine v_istore (lv1 := [(5, .int z_20), (4, .int z_17), (3, .int z_3), (2, .int z_2), (1, .int z_1), (0, va_rf (some b0))]) dX10_way_112 (Nat.le_of_ble_eq_true rfl) rfl ?_
        refine v_aload_n (q := 5) dX10_way_114 rfl rfl ?_
        obtain ⟨fs_22, z_25, e_23, e_24, hw⟩ := hw
        refine v_get in_X10 (ci := 11) rfl 8 (Nat.le_of_ble_eq_true rfl) q662 rfl dX10_way_115 e_23 e_24 ?_
        obtain ⟨hw_28, hw_29⟩ := hw
        refine v_if_ne (tgt := 146) dX10_way_118 (by decide) (fun c_26 => ?_) (fun c_27 => ?_)
        · have hw := hw_28 c_26
          exact v_vret dX10_way_146 rfl ⟨rfl, hw⟩
        · have hw := hw_29 c_27
          refine v_aload_n (q := 5) dX10_way_121 rfl rfl ?_
          obtain ⟨fs_30, r_33, e_31, e_32, hw⟩ := hw
          refine v_get in_X10 (ci := 11) rfl 2 (Nat.le_of_ble_eq_true rfl) q655 rfl dX10_way_122 e_31 e_32 ?_
          obtain ⟨a_34, ea_34, hw⟩ := hw
          subst ea_34
          obtain ⟨fs_35, r_38, e_36, e_37, hw⟩ := hw
          refine v_getN in_X2 (ci := 3) rfl 4 (Nat.le_of_ble_eq_true rfl) q206 rfl dX10_way_125 e_36 e_37 ?_
          refine v_iload (q := 0) dX10_way_128 rfl ?_
          obtain ⟨a_39, ea_39, hw⟩ := hw
          subst ea_39
          obtain ⟨N_40, g_41, e_42, hi_43, hw⟩ := hw
          refine v_iald dX10_way_130 e_42 hi_43 ?_
          obtain ⟨hw_46, hw_47⟩ := hw
          refine v_if_ne (tgt := 146) dX10_way_131 (by decide) (fun c_44 => ?_) (fun c_45 => ?_)
          · have hw := hw_46 c_44
            exact v_vret dX10_way_146 rfl ⟨rfl, hw⟩
          · have hw := hw_47 c_45
            refine v_aload_n (q := 5) dX10_way_134 rfl rfl ?_
            obtain ⟨fs_48, r_51, e_49, e_50, hw⟩ := hw
            refine v_get in_X10 (ci := 11) rfl 2 (Nat.le_of_ble_eq_true rfl) q655 rfl dX10_way_135 e_49 e_50 ?_
            obtain ⟨a_52, ea_52, hw⟩ := hw
            subst ea_52
            obtain ⟨fs_53, r_56, e_54, e_55, hw⟩ := hw
            refine v_getN in_X2 (ci := 3) rfl 4 (Nat.le_of_ble_eq_true rfl) q206 rfl dX10_way_138 e_54 e_55 ?_
            refine v_iload (q := 0) dX10_way_141 rfl ?_
            refine v_iload (q := 1) dX10_way_143 rfl ?_
            obtain ⟨a_57, ea_57, hw⟩ := hw
            subst ea_57
            obtain ⟨N_58, g_59, e_60, hi_61, hw⟩ := hw
            obtain ⟨h_62, eh_62⟩ : ∃ z9 : AH, z9 = va_up h_21 a_57 (some (.inl (0, N_58, .inl (upd g_59 (z_20).toNatClampNeg z_17)))) := ⟨_, rfl⟩
            replace hw := hw h_62 eh_62
            refine v_iast dX10_way_145 e_60 hi_61 ?_
            rw [← eh_62]
            exact v_vret dX10_way_146 rfl ⟨rfl, hw⟩
      · have hw := hw_16 c_14
        refine v_aload_n (q := 3) dX10_way_71 rfl rfl ?_
        obtain ⟨fs_69, r_72, e_70, e_71, hw⟩ := hw
        refine v_get in_X10 (ci := 11) rfl 2 (Nat.le_of_ble_eq_true rfl) q655 rfl dX10_way_72 e_70 e_71 ?_
        refine v_aload_n (q := 3) dX10_way_75 rfl rfl ?_
        refine v_iconst dX10_way_76 ic_0 ?_
        refine v_bipush dX10_way_77 bp_99 ?_
        obtain ⟨fs_80, e_81, hw⟩ := hw
        refine v_callV q746 q748 qs17 q123 q749 (ci := 11) rfl e_81 n_X10_number ⟨Nat.le_of_ble_eq_true rfl, Nat.le_of_ble_eq_true rfl⟩ [.int (nI 0), .int (nI 99)] [va_rf r_72] (met_X10_number hw) rfl (by simp only [List.map_cons, List.map_nil, List.sum_cons, List.sum_nil, v_rf1, v_cI, v_cJ]; decide) ⟨Nat.le_refl _, Nat.le_refl _⟩ dX10_way_79 rfl (v_ki (fun z_73 h_74 hv => ?_))
        clear hw
        have hw := hv
        clear hv
        obtain ⟨a_75, ea_75, hw⟩ := hw
        subst ea_75
        obtain ⟨fs_76, e_77, e_78, hw⟩ := hw
        obtain ⟨h_79, eh_79⟩ : ∃ z9 : AH, z9 = va_up h_74 a_75 (some (.inr (3, fs_76.set 2 (.int z_73)))) := ⟨_, rfl⟩
        replace hw := hw h_79 eh_79
        refine v_putN in_X2 (ci := 3) rfl 2 (Nat.le_of_ble_eq_true rfl) tyX2 tyX2_ok nmX2 q201 rfl rfl rfl rfl rfl dX10_way_82 e_77 e_78 ?_
        rw [← eh_79]
        refine v_goto (tgt := 146) dX10_way_85 (by decide) ?_
        exact v_vret dX10_way_146 rfl ⟨rfl, hw⟩
    · have hw := hw_12 c_10
      refine v_aload_n (q := 3) dX10_way_50 rfl rfl ?_
      obtain ⟨fs_82, r_85, e_83, e_84, hw⟩ := hw
      refine v_get in_X10 (ci := 11) rfl 2 (Nat.le_of_ble_eq_true rfl) q655 rfl dX10_way_51 e_83 e_84 ?_
      refine v_aload_n (q := 3) dX10_way_54 rfl rfl ?_
      refine v_iconst dX10_way_55 ic_0 ?_
      refine v_bipush dX10_way_56 bp_99 ?_
      obtain ⟨fs_93, e_94, hw⟩ := hw
      refine v_callV q746 q748 qs17 q123 q749 (ci := 11) rfl e_94 n_X10_number ⟨Nat.le_of_ble_eq_true rfl, Nat.le_of_ble_eq_true rfl⟩ [.int (nI 0), .int (nI 99)] [va_rf r_85] (met_X10_number hw) rfl (by simp only [List.map_cons, List.map_nil, List.sum_cons, List.sum_nil, v_rf1, v_cI, v_cJ]; decide) ⟨Nat.le_refl _, Nat.le_refl _⟩ dX10_way_58 rfl (v_ki (fun z_86 h_87 hv => ?_))
      clear hw
      have hw := hv
      clear hv
      obtain ⟨a_88, ea_88, hw⟩ := hw
      subst ea_88
      obtain ⟨fs_89, e_90, e_91, hw⟩ := hw
      obtain ⟨h_92, eh_92⟩ : ∃ z9 : AH, z9 = va_up h_87 a_88 (some (.inr (3, fs_89.set 1 (.int z_86)))) := ⟨_, rfl⟩
      replace hw := hw h_92 eh_92
      refine v_putN in_X2 (ci := 3) rfl 1 (Nat.le_of_ble_eq_true rfl) tyX2 tyX2_ok nmX2 q199 rfl rfl rfl rfl rfl dX10_way_61 e_90 e_91 ?_
      rw [← eh_92]
      refine v_goto (tgt := 146) dX10_way_64 (by decide) ?_
      exact v_vret dX10_way_146 rfl ⟨rfl, hw⟩
  · have hw := hw_8 c_6
    refine v_aload_n (q := 3) dX10_way_29 rfl rfl ?_
    obtain ⟨fs_95, r_98, e_96, e_97, hw⟩ := hw
    refine v_get in_X10 (ci := 11) rfl 2 (Nat.le_of_ble_eq_true rfl) q655 rfl dX10_way_30 e_96 e_97 ?_
    refine v_aload_n (q := 3) dX10_way_33 rfl rfl ?_
    refine v_iconst dX10_way_34 ic_0 ?_
    refine v_bipush dX10_way_35 bp_99 ?_
    obtain ⟨fs_106, e_107, hw⟩ := hw
    refine v_callV q746 q748 qs17 q123 q749 (ci := 11) rfl e_107 n_X10_number ⟨Nat.le_of_ble_eq_true rfl, Nat.le_of_ble_eq_true rfl⟩ [.int (nI 0), .int (nI 99)] [va_rf r_98] (met_X10_number hw) rfl (by simp only [List.map_cons, List.map_nil, List.sum_cons, List.sum_nil, v_rf1, v_cI, v_cJ]; decide) ⟨Nat.le_refl _, Nat.le_refl _⟩ dX10_way_37 rfl (v_ki (fun z_99 h_100 hv => ?_))
    clear hw
    have hw := hv
    clear hv
    obtain ⟨a_101, ea_101, hw⟩ := hw
    subst ea_101
    obtain ⟨fs_102, e_103, e_104, hw⟩ := hw
    obtain ⟨h_105, eh_105⟩ : ∃ z9 : AH, z9 = va_up h_100 a_101 (some (.inr (3, fs_102.set 0 (.int z_99)))) := ⟨_, rfl⟩
    replace hw := hw h_105 eh_105
    refine v_putN in_X2 (ci := 3) rfl 0 (Nat.le_of_ble_eq_true rfl) tyX2 tyX2_ok nmX2 q197 rfl rfl rfl rfl rfl dX10_way_40 e_103 e_104 ?_
    rw [← eh_105]
    refine v_goto (tgt := 146) dX10_way_43 (by decide) ?_
    exact v_vret dX10_way_146 rfl ⟨rfl, hw⟩
theorem met_X10_way {post : (AH) → Prop}   {b0 : Nat} {h : AH}  (hw : w_X10_way post  b0 h) : Mt l E yX10_way (ws_ yX10_way cX10_way 6 none) r_X10_way [va_rf (some b0)] h (vpv (fun (h' : AH) => post h')) := v_entry (by decide +kernel) (Nat.le_of_ble_eq_true rfl) rfl (fun _ => e_X10_way hw)
/-! X10_law -/
abbrev r_X10_law : Room := { frames := 10, cells := 0, slots := 0, locals := 489 }
theorem n_X10_law : vdn yX10_law 0 := ⟨by decide +kernel, by decide +kernel, by decide +kernel⟩
def w_X10_law_100 (post : (AH) → Prop) (k4 : (AH) → Prop) (b0 : Nat) (h : AH) : Prop :=
 (∃ fs_15 : List Value, h b0 = some (.inr (11, fs_15)) ∧ (w_X10_over (fun (h_1 : AH) => (∃ (fs_2 : List Value) (r_5 : Option Nat), h_1 b0 = some (.inr (11, fs_2)) ∧ fs_2[2]? = some (va_rf r_5) ∧ (∃ a_6 : Nat, r_5 = some a_6 ∧ (∃ (fs_7 : List Value) (z_10 : Int32), h_1 a_6 = some (.inr (3, fs_7)) ∧ fs_7[3]? = some (.int z_10) ∧ (∃ fs_11 : List Value, h_1 a_6 = some (.inr (3, fs_11)) ∧ 3 < fs_11.length ∧ ∀ h_14 : AH, h_14 = va_up h_1 a_6 (some (.inr (3, fs_11.set 3 (.int (z_10 + (nI 1)))))) → (k4 h_14)))))) b0 h))
def w_X10_law_89 (post : (AH) → Prop) (k4 : (AH) → Prop) (b0 : Nat) (h : AH) : Prop :=
 (∃ (fs_17 : List Value) (z_20 : Int32), h b0 = some (.inr (11, fs_17)) ∧ fs_17[8]? = some (.int z_20) ∧ ((¬ z_20 = 0 → (w_X10_law_100 post k4 b0 h)) ∧ (z_20 = 0 → (∃ fs_26 : List Value, h b0 = some (.inr (11, fs_26)) ∧ (w_X10_way (fun (h_25 : AH) => (w_X10_law_100 post k4 b0 h_25)) b0 h)))))
def w_X10_law_59 (post : (AH) → Prop) (k4 : (AH) → Prop) (b0 : Nat) (s0 : Int32) (h : AH) : Prop :=
 ((¬ s0 = 0 → (∃ (fs_32 : List Value) (r_35 : Option Nat), h b0 = some (.inr (11, fs_32)) ∧ fs_32[2]? = some (va_rf r_35) ∧ (∃ a_36 : Nat, r_35 = some a_36 ∧ (∃ (fs_37 : List Value) (z_40 : Int32), h a_36 = some (.inr (3, fs_37)) ∧ fs_37[3]? = some (.int z_40) ∧ ((¬ z_40 = (nI 12) → (w_X10_law_89 post k4 b0 h)) ∧ (z_40 = (nI 12) → (∃ fs_46 : List Value, h b0 = some (.inr (11, fs_46)) ∧ (w_X10_wrong (fun (h_45 : AH) => (w_X10_law_89 post k4 b0 h_45)) b0 (nI 4) h)))))))) ∧ (s0 = 0 → (∃ fs_49 : List Value, h b0 = some (.inr (11, fs_49)) ∧ (w_X10_wrong (fun (h_48 : AH) => (w_X10_law_89 post k4 b0 h_48)) b0 (nI 2) h))))
def w_X10_law_54 (post : (AH) → Prop) (k4 : (AH) → Prop) (b0 : Nat) (h : AH) : Prop :=
 (w_X10_law_59 post k4 b0 (nI 1) h)
def w_X10_law_4 (post : (AH) → Prop) (b0 : Nat) : Nat → (AH) → Prop
 | 0, _ => False
 | n0 + 1, h =>
 (∃ (fs_51 : List Value) (z_54 : Int32), h b0 = some (.inr (11, fs_51)) ∧ fs_51[8]? = some (.int z_54) ∧ ((¬ z_54 = 0 → (post h)) ∧ (z_54 = 0 → (∃ (fs_59 : List Value) (z_62 : Int32), h b0 = some (.inr (11, fs_59)) ∧ fs_59[5]? = some (.int z_62) ∧ ((z_62 = 0 → (post h)) ∧ (¬ z_62 = 0 → (∃ fs_93 : List Value, h b0 = some (.inr (11, fs_93)) ∧ (w_X10_is (fun (z_67 : Int32) => ((¬ z_67 = 0 → (w_X10_law_54 post (fun (q0 : AH) => w_X10_law_4 post b0 n0 q0) b0 h)) ∧ (z_67 = 0 → (∃ fs_91 : List Value, h b0 = some (.inr (11, fs_91)) ∧ (w_X10_is (fun (z_72 : Int32) => ((¬ z_72 = 0 → (w_X10_law_54 post (fun (q0 : AH) => w_X10_law_4 post b0 n0 q0) b0 h)) ∧ (z_72 = 0 → (∃ fs_89 : List Value, h b0 = some (.inr (11, fs_89)) ∧ (w_X10_is (fun (z_77 : Int32) => ((¬ z_77 = 0 → (w_X10_law_54 post (fun (q0 : AH) => w_X10_law_4 post b0 n0 q0) b0 h)) ∧ (z_77 = 0 → (∃ fs_87 : List Value, h b0 = some (.inr (11, fs_87)) ∧ (w_X10_is (fun (z_82 : Int32) => ((z_82 = 0 → (w_X10_law_59 post (fun (q0 : AH) => w_X10_law_4 post b0 n0 q0) b0 (nI 0) h)) ∧ (¬ z_82 = 0 → (w_X10_law_54 post (fun (q0 : AH) => w_X10_law_4 post b0 n0 q0) b0 h)))) b0 11 h))))) b0 10 h))))) b0 9 h))))) b0 8 h))))))))
def w_X10_law (post : (AH) → Prop) (b0 : Nat) (h : AH) : Prop :=
 (∃ fs_97 : List Value, h b0 = some (.inr (11, fs_97)) ∧ (w_X10_next (fun (h_95 : AH) => (∃ n1 : Nat, (w_X10_law_4 post b0 n1 h_95))) b0 h))
theorem b_X10_law_100 {post : (AH) → Prop}   {b0 : Nat} {k4 : (AH) → Prop}  (hk4 : ∀ (h : AH), k4 h → VV l E X cX10_law RX10 "law" 2 r_X10_law none (vpv (fun (h' : AH) => post h')) h 0 0 4 [(0, va_rf (some b0))] []) (h : AH) (hw : w_X10_law_100 post k4 b0 h) : VV l E X cX10_law RX10 "law" 2 r_X10_law none (vpv (fun (h' : AH) => post h')) h 0 0 100 [(0, va_rf (some b0))] [] := by
  refine v_aload_n (q := 0) dX10_law_100 rfl rfl ?_
  obtain ⟨fs_15, e_16, hw⟩ := hw
  refine v_callV q885 q887 qs24 q123 q888 (ci := 11) rfl e_16 n_X10_over ⟨Nat.le_of_ble_eq_true rfl, Nat.le_of_ble_eq_true rfl⟩ [] [] (met_X10_over hw) rfl (Nat.zero_le _) ⟨Nat.le_refl _, Nat.le_refl _⟩ dX10_law_101 rfl (v_kv (fun h_1 hv => ?_))
  clear hw
  have hw := hv
  clear hv
  refine v_aload_n (q := 0) dX10_law_104 rfl rfl ?_
  obtain ⟨fs_2, r_5, e_3, e_4, hw⟩ := hw
  refine v_get in_X10 (ci := 11) rfl 2 (Nat.le_of_ble_eq_true rfl) q655 rfl dX10_law_105 e_3 e_4 ?_
  refine v_dup dX10_law_108 (v_rf1 _) ?_
  obtain ⟨a_6, ea_6, hw⟩ := hw
  subst ea_6
  obtain ⟨fs_7, z_10, e_8, e_9, hw⟩ := hw
  refine v_getN in_X2 (ci := 3) rfl 3 (Nat.le_of_ble_eq_true rfl) q203 rfl dX10_law_109 e_8 e_9 ?_
  refine v_iconst dX10_law_112 ic_1 ?_
  refine v_iadd dX10_law_113 ?_
  obtain ⟨fs_11, e_12, e_13, hw⟩ := hw
  obtain ⟨h_14, eh_14⟩ : ∃ z9 : AH, z9 = va_up h_1 a_6 (some (.inr (3, fs_11.set 3 (.int (z_10 + (nI 1)))))) := ⟨_, rfl⟩
  replace hw := hw h_14 eh_14
  refine v_putN in_X2 (ci := 3) rfl 3 (Nat.le_of_ble_eq_true rfl) tyX2 tyX2_ok nmX2 q203 rfl rfl rfl rfl rfl dX10_law_114 e_12 e_13 ?_
  rw [← eh_14]
  refine v_goto (tgt := 4) dX10_law_117 (by decide) ?_
  refine v_sub [0] rfl ?_
  exact hk4 h_14 hw
theorem b_X10_law_89 {post : (AH) → Prop}   {b0 : Nat} {k4 : (AH) → Prop}  (hk4 : ∀ (h : AH), k4 h → VV l E X cX10_law RX10 "law" 2 r_X10_law none (vpv (fun (h' : AH) => post h')) h 0 0 4 [(0, va_rf (some b0))] []) (h : AH) (hw : w_X10_law_89 post k4 b0 h) : VV l E X cX10_law RX10 "law" 2 r_X10_law none (vpv (fun (h' : AH) => post h')) h 0 0 89 [(0, va_rf (some b0))] [] := by
  refine v_aload_n (q := 0) dX10_law_89 rfl rfl ?_
  obtain ⟨fs_17, z_20, e_18, e_19, hw⟩ := hw
  refine v_get in_X10 (ci := 11) rfl 8 (Nat.le_of_ble_eq_true rfl) q662 rfl dX10_law_90 e_18 e_19 ?_
  obtain ⟨hw_23, hw_24⟩ := hw
  refine v_if_ne (tgt := 100) dX10_law_93 (by decide) (fun c_21 => ?_) (fun c_22 => ?_)
  · have hw := hw_23 c_21
    refine v_sub [0] rfl ?_
    exact b_X10_law_100 hk4 h hw
  · have hw := hw_24 c_22
    refine v_aload_n (q := 0) dX10_law_96 rfl rfl ?_
    obtain ⟨fs_26, e_27, hw⟩ := hw
    refine v_callV q898 q900 qs25 q123 q901 (ci := 11) rfl e_27 n_X10_way ⟨Nat.le_of_ble_eq_true rfl, Nat.le_of_ble_eq_true rfl⟩ [] [] (met_X10_way hw) rfl (Nat.zero_le _) ⟨Nat.le_refl _, Nat.le_refl _⟩ dX10_law_97 rfl (v_kv (fun h_25 hv => ?_))
    clear hw
    have hw := hv
    clear hv
    refine v_sub [0] rfl ?_
    exact b_X10_law_100 hk4 h_25 hw
theorem b_X10_law_59 {post : (AH) → Prop}   {b0 : Nat} {k4 : (AH) → Prop}  (hk4 : ∀ (h : AH), k4 h → VV l E X cX10_law RX10 "law" 2 r_X10_law none (vpv (fun (h' : AH) => post h')) h 0 0 4 [(0, va_rf (some b0))] []) (s0 : Int32) (h : AH) (hw : w_X10_law_59 post k4 b0 s0 h) : VV l E X cX10_law RX10 "law" 2 r_X10_law none (vpv (fun (h' : AH) => post h')) h 0 0 59 [(0, va_rf (some b0))] [.int s0] := by
  refine v_istore_n (lv1 := [(1, .int s0), (0, va_rf (some b0))]) dX10_law_59 rfl (Nat.le_of_ble_eq_true rfl) rfl ?_
  refine v_iload_n (q := 0) dX10_law_60 rfl rfl ?_
  obtain ⟨hw_30, hw_31⟩ := hw
  refine v_if_ne (tgt := 72) dX10_law_61 (by decide) (fun c_28 => ?_) (fun c_29 => ?_)
  · have hw := hw_30 c_28
    refine v_aload_n (q := 1) dX10_law_72 rfl rfl ?_
    obtain ⟨fs_32, r_35, e_33, e_34, hw⟩ := hw
    refine v_get in_X10 (ci := 11) rfl 2 (Nat.le_of_ble_eq_true rfl) q655 rfl dX10_law_73 e_33 e_34 ?_
    obtain ⟨a_36, ea_36, hw⟩ := hw
    subst ea_36
    obtain ⟨fs_37, z_40, e_38, e_39, hw⟩ := hw
    refine v_getN in_X2 (ci := 3) rfl 3 (Nat.le_of_ble_eq_true rfl) q203 rfl dX10_law_76 e_38 e_39 ?_
    refine v_bipush dX10_law_79 bp_12 ?_
    obtain ⟨hw_43, hw_44⟩ := hw
    refine v_icmp_ne (tgt := 89) dX10_law_81 (by decide) (fun c_41 => ?_) (fun c_42 => ?_)
    · have hw := hw_43 c_41
      refine v_sub [1] rfl ?_
      exact b_X10_law_89 hk4 h hw
    · have hw := hw_44 c_42
      refine v_aload_n (q := 1) dX10_law_84 rfl rfl ?_
      refine v_iconst dX10_law_85 ic_4 ?_
      obtain ⟨fs_46, e_47, hw⟩ := hw
      refine v_callV q715 q717 qs15 q123 q718 (ci := 11) rfl e_47 n_X10_wrong ⟨Nat.le_of_ble_eq_true rfl, Nat.le_of_ble_eq_true rfl⟩ [.int (nI 4)] [] (met_X10_wrong hw) rfl (Nat.zero_le _) ⟨Nat.le_refl _, Nat.le_refl _⟩ dX10_law_86 rfl (v_kv (fun h_45 hv => ?_))
      clear hw
      have hw := hv
      clear hv
      refine v_sub [1] rfl ?_
      exact b_X10_law_89 hk4 h_45 hw
  · have hw := hw_31 c_29
    refine v_aload_n (q := 1) dX10_law_64 rfl rfl ?_
    refine v_iconst dX10_law_65 ic_2 ?_
    obtain ⟨fs_49, e_50, hw⟩ := hw
    refine v_callV q715 q717 qs15 q123 q718 (ci := 11) rfl e_50 n_X10_wrong ⟨Nat.le_of_ble_eq_true rfl, Nat.le_of_ble_eq_true rfl⟩ [.int (nI 2)] [] (met_X10_wrong hw) rfl (Nat.zero_le _) ⟨Nat.le_refl _, Nat.le_refl _⟩ dX10_law_66 rfl (v_kv (fun h_48 hv => ?_))
    clear hw
    have hw := hv
    clear hv
    refine v_goto (tgt := 89) dX10_law_69 (by decide) ?_
    refine v_sub [1] rfl ?_
    exact b_X10_law_89 hk4 h_48 hw
theorem b_X10_law_54 {post : (AH) → Prop}   {b0 : Nat} {k4 : (AH) → Prop}  (hk4 : ∀ (h : AH), k4 h → VV l E X cX10_law RX10 "law" 2 r_X10_law none (vpv (fun (h' : AH) => post h')) h 0 0 4 [(0, va_rf (some b0))] []) (h : AH) (hw : w_X10_law_54 post k4 b0 h) : VV l E X cX10_law RX10 "law" 2 r_X10_law none (vpv (fun (h' : AH) => post h')) h 0 0 54 [(0, va_rf (some b0))] [] := by
  refine v_iconst dX10_law_54 ic_1 ?_
  refine v_goto (tgt := 59) dX10_law_55 (by decide) ?_
  refine v_sub [0] rfl ?_
  exact b_X10_law_59 hk4 (nI 1) h hw
theorem b_X10_law_4 {post : (AH) → Prop}   {b0 : Nat}    : ∀ (n0 : Nat) (h : AH), w_X10_law_4 post b0 n0 h → VV l E X cX10_law RX10 "law" 2 r_X10_law none (vpv (fun (h' : AH) => post h')) h 0 0 4 [(0, va_rf (some b0))] [] := by
  intro n0
  induction n0 with
  | zero =>
    intro h hw
    exact hw.elim
  | succ n0 ih =>
    intro h hw
    refine v_aload_n (q := 0) dX10_law_4 rfl rfl ?_
    obtain ⟨fs_51, z_54, e_52, e_53, hw⟩ := hw
    refine v_get in_X10 (ci := 11) rfl 8 (Nat.le_of_ble_eq_true rfl) q662 rfl dX10_law_5 e_52 e_53 ?_
    obtain ⟨hw_57, hw_58⟩ := hw
    refine v_if_ne (tgt := 120) dX10_law_8 (by decide) (fun c_55 => ?_) (fun c_56 => ?_)
    · have hw := hw_57 c_55
      exact v_vret dX10_law_120 rfl ⟨rfl, hw⟩
    · have hw := hw_58 c_56
      refine v_aload_n (q := 0) dX10_law_11 rfl rfl ?_
      obtain ⟨fs_59, z_62, e_60, e_61, hw⟩ := hw
      refine v_get in_X10 (ci := 11) rfl 5 (Nat.le_of_ble_eq_true rfl) q659 rfl dX10_law_12 e_60 e_61 ?_
      obtain ⟨hw_65, hw_66⟩ := hw
      refine v_if_eq (tgt := 120) dX10_law_15 (by decide) (fun c_63 => ?_) (fun c_64 => ?_)
      · have hw := hw_65 c_63
        exact v_vret dX10_law_120 rfl ⟨rfl, hw⟩
      · have hw := hw_66 c_64
        refine v_aload_n (q := 0) dX10_law_18 rfl rfl ?_
        refine v_ldcS dX10_law_19 (i := 8) rfl ?_
        obtain ⟨fs_93, e_94, hw⟩ := hw
        refine v_callV q756 q758 qs19 q123 q759 (ci := 11) rfl e_94 n_X10_is ⟨Nat.le_of_ble_eq_true rfl, Nat.le_of_ble_eq_true rfl⟩ [va_rf (some (E.2.2.1 8))] [] (met_X10_is hw) rfl (Nat.zero_le _) ⟨Nat.le_refl _, Nat.le_refl _⟩ dX10_law_21 rfl (v_ki (fun z_67 h1 hv => ?_))
        clear hw
        obtain ⟨e9, hw⟩ := hv
        refine v_heap e9 ?_
        clear e9
        obtain ⟨hw_70, hw_71⟩ := hw
        refine v_if_ne (tgt := 54) dX10_law_24 (by decide) (fun c_68 => ?_) (fun c_69 => ?_)
        · have hw := hw_70 c_68
          refine v_sub [0] rfl ?_
          exact b_X10_law_54 (fun q0 z => ih q0 z) h hw
        · have hw := hw_71 c_69
          refine v_aload_n (q := 0) dX10_law_27 rfl rfl ?_
          refine v_ldcS dX10_law_28 (i := 9) rfl ?_
          obtain ⟨fs_91, e_92, hw⟩ := hw
          refine v_callV q756 q758 qs19 q123 q759 (ci := 11) rfl e_92 n_X10_is ⟨Nat.le_of_ble_eq_true rfl, Nat.le_of_ble_eq_true rfl⟩ [va_rf (some (E.2.2.1 9))] [] (met_X10_is hw) rfl (Nat.zero_le _) ⟨Nat.le_refl _, Nat.le_refl _⟩ dX10_law_30 rfl (v_ki (fun z_72 h1 hv => ?_))
          clear hw
          obtain ⟨e9, hw⟩ := hv
          refine v_heap e9 ?_
          clear e9
          obtain ⟨hw_75, hw_76⟩ := hw
          refine v_if_ne (tgt := 54) dX10_law_33 (by decide) (fun c_73 => ?_) (fun c_74 => ?_)
          · have hw := hw_75 c_73
            refine v_sub [0] rfl ?_
            exact b_X10_law_54 (fun q0 z => ih q0 z) h hw
          · have hw := hw_76 c_74
            refine v_aload_n (q := 0) dX10_law_36 rfl rfl ?_
            refine v_ldcS dX10_law_37 (i := 10) rfl ?_
            obtain ⟨fs_89, e_90, hw⟩ := hw
            refine v_callV q756 q758 qs19 q123 q759 (ci := 11) rfl e_90 n_X10_is ⟨Nat.le_of_ble_eq_true rfl, Nat.le_of_ble_eq_true rfl⟩ [va_rf (some (E.2.2.1 10))] [] (met_X10_is hw) rfl (Nat.zero_le _) ⟨Nat.le_refl _, Nat.le_refl _⟩ dX10_law_39 rfl (v_ki (fun z_77 h1 hv => ?_))
            clear hw
            obtain ⟨e9, hw⟩ := hv
            refine v_heap e9 ?_
            clear e9
            obtain ⟨hw_80, hw_81⟩ := hw
            refine v_if_ne (tgt := 54) dX10_law_42 (by decide) (fun c_78 => ?_) (fun c_79 => ?_)
            · have hw := hw_80 c_78
              refine v_sub [0] rfl ?_
              exact b_X10_law_54 (fun q0 z => ih q0 z) h hw
            · have hw := hw_81 c_79
              refine v_aload_n (q := 0) dX10_law_45 rfl rfl ?_
              refine v_ldcS dX10_law_46 (i := 11) rfl ?_
              obtain ⟨fs_87, e_88, hw⟩ := hw
              refine v_callV q756 q758 qs19 q123 q759 (ci := 11) rfl e_88 n_X10_is ⟨Nat.le_of_ble_eq_true rfl, Nat.le_of_ble_eq_true rfl⟩ [va_rf (some (E.2.2.1 11))] [] (met_X10_is hw) rfl (Nat.zero_le _) ⟨Nat.le_refl _, Nat.le_refl _⟩ dX10_law_48 rfl (v_ki (fun z_82 h1 hv => ?_))
              clear hw
              obtain ⟨e9, hw⟩ := hv
              refine v_heap e9 ?_
              clear e9
              obtain ⟨hw_85, hw_86⟩ := hw
              refine v_if_eq (tgt := 58) dX10_law_51 (by decide) (fun c_83 => ?_) (fun c_84 => ?_)
              · have hw := hw_85 c_83
                refine v_iconst dX10_law_58 ic_0 ?_
                refine v_sub [0] rfl ?_
                exact b_X10_law_59 (fun q0 z => ih q0 z) (nI 0) h hw
              · have hw := hw_86 c_84
                refine v_sub [0] rfl ?_
                exact b_X10_law_54 (fun q0 z => ih q0 z) h hw
theorem e_X10_law {post : (AH) → Prop}   {b0 : Nat} {h : AH}  (hw : w_X10_law post  b0 h) : VV l E X cX10_law RX10 "law" 2 r_X10_law none (vpv (fun (h' : AH) => post h')) h 0 0 0 [(0, va_rf (some b0))] [] := by
  refine v_aload_n (q := 0) dX10_law_0 rfl rfl ?_
  obtain ⟨fs_97, e_98, hw⟩ := hw
  refine v_callV q694 q696 qs11 q123 q697 (ci := 11) rfl e_98 n_X10_next ⟨Nat.le_of_ble_eq_true rfl, Nat.le_of_ble_eq_true rfl⟩ [] [] (met_X10_next hw) rfl (Nat.zero_le _) ⟨Nat.le_refl _, Nat.le_refl _⟩ dX10_law_1 rfl (v_kv (fun h_95 hv => ?_))
  clear hw
  have hw := hv
  clear hv
  obtain ⟨n_96, hw⟩ := hw
  refine v_sub [0] rfl ?_
  exact b_X10_law_4 n_96 h_95 hw
theorem met_X10_law {post : (AH) → Prop}   {b0 : Nat} {h : AH}  (hw : w_X10_law post  b0 h) : Mt l E yX10_law (ws_ yX10_law cX10_law 2 none) r_X10_law [va_rf (some b0)] h (vpv (fun (h' : AH) => post h')) := v_entry (by decide +kernel) (Nat.le_of_ble_eq_true rfl) rfl (fun _ => e_X10_law hw)
/-! X0_fault -/
abbrev r_X0_fault : Room := { frames := 0, cells := 0, slots := 0, locals := 0 }
theorem n_X0_fault : vdn yX0_fault 1 := ⟨by decide +kernel, by decide +kernel, by decide +kernel⟩
def w_X0_fault (post : (Int32) → Prop) (b0 : Nat) (x1 : Int32) (h : AH) : Prop :=
 ((¬ x1 = 0 → ((¬ x1 = (nI 1) → (post (-1))) ∧ (x1 = (nI 1) → (∃ (fs_9 : List Value) (z_12 : Int32), h b0 = some (.inr (0, fs_9)) ∧ fs_9[7]? = some (.int z_12) ∧ (post z_12))))) ∧ (x1 = 0 → (∃ (fs_13 : List Value) (z_16 : Int32), h b0 = some (.inr (0, fs_13)) ∧ fs_13[6]? = some (.int z_16) ∧ (post z_16))))
theorem e_X0_fault {post : (Int32) → Prop}   {b0 : Nat} {x1 : Int32} {h : AH}  (hw : w_X0_fault post  b0 x1 h) : VV l E X cX0_fault RX0 "fault" 2 r_X0_fault (some .int) (vpi (fun (r : Int32) (h' : AH) => h' = h ∧ post r)) h 0 0 0 [(0, va_rf (some b0)), (1, .int x1)] [] := by
  refine v_iload_n (q := 1) dX0_fault_0 rfl rfl ?_
  obtain ⟨hw_3, hw_4⟩ := hw
  refine v_if_ne (tgt := 11) dX0_fault_1 (by decide) (fun c_1 => ?_) (fun c_2 => ?_)
  · have hw := hw_3 c_1
    refine v_iload_n (q := 1) dX0_fault_11 rfl rfl ?_
    refine v_iconst dX0_fault_12 ic_1 ?_
    obtain ⟨hw_7, hw_8⟩ := hw
    refine v_icmp_ne (tgt := 23) dX0_fault_13 (by decide) (fun c_5 => ?_) (fun c_6 => ?_)
    · have hw := hw_7 c_5
      refine v_iconst dX0_fault_23 ic_m1 ?_
      exact v_iret dX0_fault_24 rfl ⟨_, rfl, rfl, hw⟩
    · have hw := hw_8 c_6
      refine v_aload_n (q := 0) dX0_fault_16 rfl rfl ?_
      obtain ⟨fs_9, z_12, e_10, e_11, hw⟩ := hw
      refine v_get in_X0 (ci := 0) rfl 7 (Nat.le_of_ble_eq_true rfl) q326 rfl dX0_fault_17 e_10 e_11 ?_
      refine v_goto (tgt := 24) dX0_fault_20 (by decide) ?_
      exact v_iret dX0_fault_24 rfl ⟨_, rfl, rfl, hw⟩
  · have hw := hw_4 c_2
    refine v_aload_n (q := 0) dX0_fault_4 rfl rfl ?_
    obtain ⟨fs_13, z_16, e_14, e_15, hw⟩ := hw
    refine v_get in_X0 (ci := 0) rfl 6 (Nat.le_of_ble_eq_true rfl) q325 rfl dX0_fault_5 e_14 e_15 ?_
    refine v_goto (tgt := 24) dX0_fault_8 (by decide) ?_
    exact v_iret dX0_fault_24 rfl ⟨_, rfl, rfl, hw⟩
theorem met_X0_fault {post : (Int32) → Prop}   {b0 : Nat} {x1 : Int32} {h : AH}  (hw : w_X0_fault post  b0 x1 h) : Mt l E yX0_fault (ws_ yX0_fault cX0_fault 2 (some .int)) r_X0_fault [va_rf (some b0), .int x1] h (vpi (fun (r : Int32) (h' : AH) => h' = h ∧ post r)) := v_entry (by decide +kernel) (Nat.le_of_ble_eq_true rfl) rfl (fun _ => e_X0_fault hw)
/-! X8_isSame -/
abbrev r_X8_isSame : Room := { frames := 0, cells := 0, slots := 0, locals := 0 }
theorem n_X8_isSame : vdn yX8_isSame 1 := ⟨by decide +kernel, by decide +kernel, by decide +kernel⟩
def w_X8_isSame_15 (post : (Int32) → Prop) (b0 : Nat) (x1 : Option Nat) (h : AH) : Nat → (Int32) → Prop
 | 0, _ => False
 | n0 + 1, x2 =>
 (∃ (fs_1 : List Value) (z_4 : Int32), h b0 = some (.inr (9, fs_1)) ∧ fs_1[1]? = some (.int z_4) ∧ ((z_4 ≤ x2 → (post (nI 1))) ∧ (¬ z_4 ≤ x2 → (∃ (fs_9 : List Value) (r_12 : Option Nat), h b0 = some (.inr (9, fs_9)) ∧ fs_9[0]? = some (va_rf r_12) ∧ (∃ a_13 : Nat, r_12 = some a_13 ∧ (∃ (N_14 : Nat) (g_15 : Nat → Int32), h a_13 = some (.inl (0, N_14, .inl g_15)) ∧ vp_in x2 N_14 ∧ (∃ a_18 : Nat, x1 = some a_18 ∧ (∃ (fs_19 : List Value) (r_22 : Option Nat), h a_18 = some (.inr (9, fs_19)) ∧ fs_19[0]? = some (va_rf r_22) ∧ (∃ a_23 : Nat, r_22 = some a_23 ∧ (∃ (N_24 : Nat) (g_25 : Nat → Int32), h a_23 = some (.inl (0, N_24, .inl g_25)) ∧ vp_in x2 N_24 ∧ (((g_15 (x2).toNatClampNeg) = (g_25 (x2).toNatClampNeg) → (∀ z_32 : Int32, z_32 = x2 + (nI 1) → (w_X8_isSame_15 post b0 x1 h n0 z_32))) ∧ (¬ (g_15 (x2).toNatClampNeg) = (g_25 (x2).toNatClampNeg) → (post (nI 0))))))))))))))
def w_X8_isSame (post : (Int32) → Prop) (b0 : Nat) (x1 : Option Nat) (h : AH) : Prop :=
 (∃ (fs_33 : List Value) (z_36 : Int32), h b0 = some (.inr (9, fs_33)) ∧ fs_33[1]? = some (.int z_36) ∧ (∃ a_37 : Nat, x1 = some a_37 ∧ (∃ (fs_38 : List Value) (z_41 : Int32), h a_37 = some (.inr (9, fs_38)) ∧ fs_38[1]? = some (.int z_41) ∧ ((z_36 = z_41 → (∃ n1 : Nat, (w_X8_isSame_15 post b0 x1 h n1 (nI 0)))) ∧ (¬ z_36 = z_41 → (post (nI 0)))))))
theorem b_X8_isSame_15 {post : (Int32) → Prop}   {b0 : Nat} {x1 : Option Nat} {h : AH}    : ∀ (n0 : Nat) (x2 : Int32), w_X8_isSame_15 post b0 x1 h n0 x2 → VV l E X cX8_isSame RX8 "isSame" 3 r_X8_isSame (some .boolean) (vpi (fun (r : Int32) (h' : AH) => h' = h ∧ post r)) h 0 0 15 [(0, va_rf (some b0)), (1, va_rf x1), (2, .int x2)] [] := by
  intro n0
  induction n0 with
  | zero =>
    intro x2 hw
    exact hw.elim
  | succ n0 ih =>
    intro x2 hw
    refine v_iload_n (q := 2) dX8_isSame_15 rfl rfl ?_
    refine v_aload_n (q := 0) dX8_isSame_16 rfl rfl ?_
    obtain ⟨fs_1, z_4, e_2, e_3, hw⟩ := hw
    refine v_get in_X8 (ci := 9) rfl 1 (Nat.le_of_ble_eq_true rfl) q551 rfl dX8_isSame_17 e_2 e_3 ?_
    obtain ⟨hw_7, hw_8⟩ := hw
    refine v_icmp_ge (tgt := 46) dX8_isSame_20 (by decide) (fun c_5 => ?_) (fun c_6 => ?_)
    · have hw := hw_7 c_5
      refine v_iconst dX8_isSame_46 ic_1 ?_
      exact v_zret dX8_isSame_47 rfl rfl ⟨_, rfl, rfl, hw⟩
    · have hw := hw_8 c_6
      refine v_aload_n (q := 0) dX8_isSame_23 rfl rfl ?_
      obtain ⟨fs_9, r_12, e_10, e_11, hw⟩ := hw
      refine v_get in_X8 (ci := 9) rfl 0 (Nat.le_of_ble_eq_true rfl) q545 rfl dX8_isSame_24 e_10 e_11 ?_
      refine v_iload_n (q := 2) dX8_isSame_27 rfl rfl ?_
      obtain ⟨a_13, ea_13, hw⟩ := hw
      subst ea_13
      obtain ⟨N_14, g_15, e_16, hi_17, hw⟩ := hw
      refine v_iald dX8_isSame_28 e_16 hi_17 ?_
      refine v_aload_n (q := 1) dX8_isSame_29 rfl rfl ?_
      obtain ⟨a_18, ea_18, hw⟩ := hw
      subst ea_18
      obtain ⟨fs_19, r_22, e_20, e_21, hw⟩ := hw
      refine v_get in_X8 (ci := 9) rfl 0 (Nat.le_of_ble_eq_true rfl) q545 rfl dX8_isSame_30 e_20 e_21 ?_
      refine v_iload_n (q := 2) dX8_isSame_33 rfl rfl ?_
      obtain ⟨a_23, ea_23, hw⟩ := hw
      subst ea_23
      obtain ⟨N_24, g_25, e_26, hi_27, hw⟩ := hw
      refine v_iald dX8_isSame_34 e_26 hi_27 ?_
      obtain ⟨hw_30, hw_31⟩ := hw
      refine v_icmp_eq (tgt := 40) dX8_isSame_35 (by decide) (fun c_28 => ?_) (fun c_29 => ?_)
      · have hw := hw_30 c_28
        obtain ⟨z_32, e_32⟩ : ∃ z9 : Int32, z9 = x2 + (nI 1) := ⟨_, rfl⟩
        replace hw := hw z_32 e_32
        refine v_iinc (q := 2) (v := z_32) (lv1 := [(2, .int z_32), (0, va_rf (some b0)), (1, va_rf (some a_18))]) dX8_isSame_40 rfl (by rw [e_32, ic_1]) (Nat.le_of_ble_eq_true rfl) rfl ?_
        refine v_goto (tgt := 15) dX8_isSame_43 (by decide) ?_
        refine v_sub [1, 2, 0] rfl ?_
        exact ih z_32 hw
      · have hw := hw_31 c_29
        refine v_iconst dX8_isSame_38 ic_0 ?_
        exact v_zret dX8_isSame_39 rfl rfl ⟨_, rfl, rfl, hw⟩
theorem e_X8_isSame {post : (Int32) → Prop}   {b0 : Nat} {x1 : Option Nat} {h : AH}  (hw : w_X8_isSame post  b0 x1 h) : VV l E X cX8_isSame RX8 "isSame" 3 r_X8_isSame (some .boolean) (vpi (fun (r : Int32) (h' : AH) => h' = h ∧ post r)) h 0 0 0 [(0, va_rf (some b0)), (1, va_rf x1)] [] := by
  refine v_aload_n (q := 0) dX8_isSame_0 rfl rfl ?_
  obtain ⟨fs_33, z_36, e_34, e_35, hw⟩ := hw
  refine v_get in_X8 (ci := 9) rfl 1 (Nat.le_of_ble_eq_true rfl) q551 rfl dX8_isSame_1 e_34 e_35 ?_
  refine v_aload_n (q := 1) dX8_isSame_4 rfl rfl ?_
  obtain ⟨a_37, ea_37, hw⟩ := hw
  subst ea_37
  obtain ⟨fs_38, z_41, e_39, e_40, hw⟩ := hw
  refine v_get in_X8 (ci := 9) rfl 1 (Nat.le_of_ble_eq_true rfl) q551 rfl dX8_isSame_5 e_39 e_40 ?_
  obtain ⟨hw_44, hw_45⟩ := hw
  refine v_icmp_eq (tgt := 13) dX8_isSame_8 (by decide) (fun c_42 => ?_) (fun c_43 => ?_)
  · have hw := hw_44 c_42
    refine v_iconst dX8_isSame_13 ic_0 ?_
    refine v_istore_n (lv1 := [(2, .int (nI 0)), (0, va_rf (some b0)), (1, va_rf (some a_37))]) dX8_isSame_14 rfl (Nat.le_of_ble_eq_true rfl) rfl ?_
    obtain ⟨n_46, hw⟩ := hw
    refine v_sub [1, 2, 0] rfl ?_
    exact b_X8_isSame_15 n_46 (nI 0) hw
  · have hw := hw_45 c_43
    refine v_iconst dX8_isSame_11 ic_0 ?_
    exact v_zret dX8_isSame_12 rfl rfl ⟨_, rfl, rfl, hw⟩
theorem met_X8_isSame {post : (Int32) → Prop}   {b0 : Nat} {x1 : Option Nat} {h : AH}  (hw : w_X8_isSame post  b0 x1 h) : Mt l E yX8_isSame (ws_ yX8_isSame cX8_isSame 3 (some .boolean)) r_X8_isSame [va_rf (some b0), va_rf x1] h (vpi (fun (r : Int32) (h' : AH) => h' = h ∧ post r)) := v_entry (by decide +kernel) (by cases x1 <;> exact (Nat.le_of_ble_eq_true rfl)) (by cases x1 <;> exact rfl) (fun _ => e_X8_isSame hw)
/-! X11_standsAt -/
abbrev r_X11_standsAt : Room := { frames := 0, cells := 0, slots := 0, locals := 0 }
theorem n_X11_standsAt : vdn yX11_standsAt 2 := ⟨by decide +kernel, by decide +kernel, by decide +kernel⟩
def w_X11_standsAt_2 (post : (Int32) → Prop) (b0 : Nat) (x1 : Option Nat) (x2 : Int32) (h : AH) : Nat → (Int32) → Prop
 | 0, _ => False
 | n0 + 1, x3 =>
 (∃ (fs_1 : List Value) (r_4 : Option Nat), h b0 = some (.inr (12, fs_1)) ∧ fs_1[0]? = some (va_rf r_4) ∧ (∃ a_5 : Nat, r_4 = some a_5 ∧ (∃ (fs_6 : List Value) (z_9 : Int32), h a_5 = some (.inr (9, fs_6)) ∧ fs_6[1]? = some (.int z_9) ∧ ((z_9 ≤ x3 → (post (nI 1))) ∧ (¬ z_9 ≤ x3 → (∃ a_14 : Nat, x1 = some a_14 ∧ (∃ (fs_15 : List Value) (r_18 : Option Nat), h a_14 = some (.inr (9, fs_15)) ∧ fs_15[0]? = some (va_rf r_18) ∧ (∃ a_19 : Nat, r_18 = some a_19 ∧ (∃ (N_20 : Nat) (g_21 : Nat → Int32), h a_19 = some (.inl (0, N_20, .inl g_21)) ∧ vp_in (x2 + x3) N_20 ∧ (∃ (fs_24 : List Value) (r_27 : Option Nat), h b0 = some (.inr (12, fs_24)) ∧ fs_24[0]? = some (va_rf r_27) ∧ (∃ a_28 : Nat, r_27 = some a_28 ∧ (∃ (fs_29 : List Value) (r_32 : Option Nat), h a_28 = some (.inr (9, fs_29)) ∧ fs_29[0]? = some (va_rf r_32) ∧ (∃ a_33 : Nat, r_32 = some a_33 ∧ (∃ (N_34 : Nat) (g_35 : Nat → Int32), h a_33 = some (.inl (0, N_34, .inl g_35)) ∧ vp_in x3 N_34 ∧ (((g_21 ((x2 + x3)).toNatClampNeg) = (g_35 (x3).toNatClampNeg) → (∀ z_42 : Int32, z_42 = x3 + (nI 1) → (w_X11_standsAt_2 post b0 x1 x2 h n0 z_42))) ∧ (¬ (g_21 ((x2 + x3)).toNatClampNeg) = (g_35 (x3).toNatClampNeg) → (post (nI 0))))))))))))))))))
def w_X11_standsAt (post : (Int32) → Prop) (b0 : Nat) (x1 : Option Nat) (x2 : Int32) (h : AH) : Prop :=
 (∃ n1 : Nat, (w_X11_standsAt_2 post b0 x1 x2 h n1 (nI 0)))
theorem b_X11_standsAt_2 {post : (Int32) → Prop}   {b0 : Nat} {x1 : Option Nat} {x2 : Int32} {h : AH}    : ∀ (n0 : Nat) (x3 : Int32), w_X11_standsAt_2 post b0 x1 x2 h n0 x3 → VV l E X cX11_standsAt RX11 "standsAt" 4 r_X11_standsAt (some .boolean) (vpi (fun (r : Int32) (h' : AH) => h' = h ∧ post r)) h 0 0 2 [(0, va_rf (some b0)), (1, va_rf x1), (2, .int x2), (3, .int x3)] [] := by
  intro n0
  induction n0 with
  | zero =>
    intro x3 hw
    exact hw.elim
  | succ n0 ih =>
    intro x3 hw
    refine v_iload_n (q := 3) dX11_standsAt_2 rfl rfl ?_
    refine v_aload_n (q := 0) dX11_standsAt_3 rfl rfl ?_
    obtain ⟨fs_1, r_4, e_2, e_3, hw⟩ := hw
    refine v_get in_X11 (ci := 12) rfl 0 (Nat.le_of_ble_eq_true rfl) q729 rfl dX11_standsAt_4 e_2 e_3 ?_
    obtain ⟨a_5, ea_5, hw⟩ := hw
    subst ea_5
    obtain ⟨fs_6, z_9, e_7, e_8, hw⟩ := hw
    refine v_getN in_X8 (ci := 9) rfl 1 (Nat.le_of_ble_eq_true rfl) q550 rfl dX11_standsAt_7 e_7 e_8 ?_
    obtain ⟨hw_12, hw_13⟩ := hw
    refine v_icmp_ge (tgt := 41) dX11_standsAt_10 (by decide) (fun c_10 => ?_) (fun c_11 => ?_)
    · have hw := hw_12 c_10
      refine v_iconst dX11_standsAt_41 ic_1 ?_
      exact v_zret dX11_standsAt_42 rfl rfl ⟨_, rfl, rfl, hw⟩
    · have hw := hw_13 c_11
      refine v_aload_n (q := 1) dX11_standsAt_13 rfl rfl ?_
      obtain ⟨a_14, ea_14, hw⟩ := hw
      subst ea_14
      obtain ⟨fs_15, r_18, e_16, e_17, hw⟩ := hw
      refine v_getN in_X8 (ci := 9) rfl 0 (Nat.le_of_ble_eq_true rfl) q546 rfl dX11_standsAt_14 e_16 e_17 ?_
      refine v_iload_n (q := 2) dX11_standsAt_17 rfl rfl ?_
      refine v_iload_n (q := 3) dX11_standsAt_18 rfl rfl ?_
      refine v_iadd dX11_standsAt_19 ?_
      obtain ⟨a_19, ea_19, hw⟩ := hw
      subst ea_19
      obtain ⟨N_20, g_21, e_22, hi_23, hw⟩ := hw
      refine v_iald dX11_standsAt_20 e_22 hi_23 ?_
      refine v_aload_n (q := 0) dX11_standsAt_21 rfl rfl ?_
      obtain ⟨fs_24, r_27, e_25, e_26, hw⟩ := hw
      refine v_get in_X11 (ci := 12) rfl 0 (Nat.le_of_ble_eq_true rfl) q729 rfl dX11_standsAt_22 e_25 e_26 ?_
      obtain ⟨a_28, ea_28, hw⟩ := hw
      subst ea_28
      obtain ⟨fs_29, r_32, e_30, e_31, hw⟩ := hw
      refine v_getN in_X8 (ci := 9) rfl 0 (Nat.le_of_ble_eq_true rfl) q546 rfl dX11_standsAt_25 e_30 e_31 ?_
      refine v_iload_n (q := 3) dX11_standsAt_28 rfl rfl ?_
      obtain ⟨a_33, ea_33, hw⟩ := hw
      subst ea_33
      obtain ⟨N_34, g_35, e_36, hi_37, hw⟩ := hw
      refine v_iald dX11_standsAt_29 e_36 hi_37 ?_
      obtain ⟨hw_40, hw_41⟩ := hw
      refine v_icmp_eq (tgt := 35) dX11_standsAt_30 (by decide) (fun c_38 => ?_) (fun c_39 => ?_)
      · have hw := hw_40 c_38
        obtain ⟨z_42, e_42⟩ : ∃ z9 : Int32, z9 = x3 + (nI 1) := ⟨_, rfl⟩
        replace hw := hw z_42 e_42
        refine v_iinc (q := 3) (v := z_42) (lv1 := [(3, .int z_42), (0, va_rf (some b0)), (1, va_rf (some a_14)), (2, .int x2)]) dX11_standsAt_35 rfl (by rw [e_42, ic_1]) (Nat.le_of_ble_eq_true rfl) rfl ?_
        refine v_goto (tgt := 2) dX11_standsAt_38 (by decide) ?_
        refine v_sub [1, 2, 3, 0] rfl ?_
        exact ih z_42 hw
      · have hw := hw_41 c_39
        refine v_iconst dX11_standsAt_33 ic_0 ?_
        exact v_zret dX11_standsAt_34 rfl rfl ⟨_, rfl, rfl, hw⟩
theorem e_X11_standsAt {post : (Int32) → Prop}   {b0 : Nat} {x1 : Option Nat} {x2 : Int32} {h : AH}  (hw : w_X11_standsAt post  b0 x1 x2 h) : VV l E X cX11_standsAt RX11 "standsAt" 4 r_X11_standsAt (some .boolean) (vpi (fun (r : Int32) (h' : AH) => h' = h ∧ post r)) h 0 0 0 [(0, va_rf (some b0)), (1, va_rf x1), (2, .int x2)] [] := by
  refine v_iconst dX11_standsAt_0 ic_0 ?_
  refine v_istore_n (lv1 := [(3, .int (nI 0)), (0, va_rf (some b0)), (1, va_rf x1), (2, .int x2)]) dX11_standsAt_1 rfl (Nat.le_of_ble_eq_true rfl) rfl ?_
  obtain ⟨n_43, hw⟩ := hw
  refine v_sub [1, 2, 3, 0] rfl ?_
  exact b_X11_standsAt_2 n_43 (nI 0) hw
theorem met_X11_standsAt {post : (Int32) → Prop}   {b0 : Nat} {x1 : Option Nat} {x2 : Int32} {h : AH}  (hw : w_X11_standsAt post  b0 x1 x2 h) : Mt l E yX11_standsAt (ws_ yX11_standsAt cX11_standsAt 4 (some .boolean)) r_X11_standsAt [va_rf (some b0), va_rf x1, .int x2] h (vpi (fun (r : Int32) (h' : AH) => h' = h ∧ post r)) := v_entry (by decide +kernel) (by cases x1 <;> exact (Nat.le_of_ble_eq_true rfl)) (by cases x1 <;> exact rfl) (fun _ => e_X11_standsAt hw)
/-! X0_draw -/
abbrev r_X0_draw : Room := { frames := 0, cells := 0, slots := 0, locals := 0 }
theorem n_X0_draw : vdn yX0_draw 0 := ⟨by decide +kernel, by decide +kernel, by decide +kernel⟩
def w_X0_draw (post : (Int32) → (AH) → Prop) (b0 : Nat) (h : AH) : Prop :=
 (∃ (fs_1 : List Value) (z_4 : Int32), h b0 = some (.inr (0, fs_1)) ∧ fs_1[8]? = some (.int z_4) ∧ (∃ fs_5 : List Value, h b0 = some (.inr (0, fs_5)) ∧ 8 < fs_5.length ∧ ∀ h_8 : AH, h_8 = va_up h b0 (some (.inr (0, fs_5.set 8 (.int (((nI 1103515245) * z_4) + (nI 12345)))))) → (∃ (fs_9 : List Value) (z_12 : Int32), h_8 b0 = some (.inr (0, fs_9)) ∧ fs_9[8]? = some (.int z_12) ∧ (post (((z_12).toUInt32 >>> (((nI 16)).toUInt32 &&& Int32.toUInt32 31)).toInt32 - ((z_12).toUInt32 >>> (((nI 16)).toUInt32 &&& Int32.toUInt32 31)).toInt32 / (nI 100) * (nI 100)) h_8))))
theorem e_X0_draw {post : (Int32) → (AH) → Prop}   {b0 : Nat} {h : AH}  (hw : w_X0_draw post  b0 h) : VV l E X cX0_draw RX0 "draw" 1 r_X0_draw (some .int) (vpi (fun (r : Int32) (h' : AH) => post r h')) h 0 0 0 [(0, va_rf (some b0))] [] := by
  refine v_aload_n (q := 0) dX0_draw_0 rfl rfl ?_
  refine v_ldcw (v := (nI 1103515245)) dX0_draw_1 q979 ?_
  refine v_aload_n (q := 0) dX0_draw_4 rfl rfl ?_
  obtain ⟨fs_1, z_4, e_2, e_3, hw⟩ := hw
  refine v_get in_X0 (ci := 0) rfl 8 (Nat.le_of_ble_eq_true rfl) q327 rfl dX0_draw_5 e_2 e_3 ?_
  refine v_imul dX0_draw_8 ?_
  refine v_sipush dX0_draw_9 sp_12345 ?_
  refine v_iadd dX0_draw_12 ?_
  obtain ⟨fs_5, e_6, e_7, hw⟩ := hw
  obtain ⟨h_8, eh_8⟩ : ∃ z9 : AH, z9 = va_up h b0 (some (.inr (0, fs_5.set 8 (.int (((nI 1103515245) * z_4) + (nI 12345)))))) := ⟨_, rfl⟩
  replace hw := hw h_8 eh_8
  refine v_put in_X0 (ci := 0) rfl 8 (Nat.le_of_ble_eq_true rfl) tyX0 tyX0_ok nmX0 q327 rfl rfl rfl rfl rfl dX0_draw_13 e_6 e_7 ?_
  rw [← eh_8]
  refine v_aload_n (q := 0) dX0_draw_16 rfl rfl ?_
  obtain ⟨fs_9, z_12, e_10, e_11, hw⟩ := hw
  refine v_get in_X0 (ci := 0) rfl 8 (Nat.le_of_ble_eq_true rfl) q327 rfl dX0_draw_17 e_10 e_11 ?_
  refine v_bipush dX0_draw_20 bp_16 ?_
  refine v_iushr dX0_draw_22 ?_
  refine v_bipush dX0_draw_23 bp_100 ?_
  refine v_irem dX0_draw_25 (by decide) ?_
  exact v_iret dX0_draw_26 rfl ⟨_, rfl, hw⟩
theorem met_X0_draw {post : (Int32) → (AH) → Prop}   {b0 : Nat} {h : AH}  (hw : w_X0_draw post  b0 h) : Mt l E yX0_draw (ws_ yX0_draw cX0_draw 1 (some .int)) r_X0_draw [va_rf (some b0)] h (vpi (fun (r : Int32) (h' : AH) => post r h')) := v_entry (by decide +kernel) (Nat.le_of_ble_eq_true rfl) rfl (fun _ => e_X0_draw hw)
/-! X0_said -/
abbrev r_X0_said : Room := { frames := 2, cells := 2, slots := 10, locals := 40 }
theorem n_X0_said : vdn yX0_said 1 := ⟨by decide +kernel, by decide +kernel, by decide +kernel⟩
def w_X0_said_65 (post : (Option Nat) → (AH) → Prop) (k10 : (Option Nat) → (Int32) → (AH) → (Nat) → (Nat) → Prop) (b0 : Nat) (x1 : Option Nat) (x2 : Option Nat) (x3 : Int32) (s0 : Int32) (s1 : Option Nat) (h : AH) (k : Nat) (n : Nat) : Prop :=
 (∃ a_1 : Nat, s1 = some a_1 ∧ (∃ fs_4 : List Value, h a_1 = some (.inr (9, fs_4)) ∧ (w_X8_adds (fun (h_2 : AH) => (∀ z_3 : Int32, z_3 = x3 + (nI 1) → (k10 x2 z_3 h_2 k n))) a_1 s0 h)))
def w_X0_said_10 (post : (Option Nat) → (AH) → Prop) (b0 : Nat) (x1 : Option Nat) : Nat → (Option Nat) → (Int32) → (AH) → (Nat) → (Nat) → Prop
 | 0, _, _, _, _, _ => False
 | n0 + 1, x2, x3, h, k, n =>
 (∃ a_6 : Nat, x1 = some a_6 ∧ (∃ (fs_7 : List Value) (z_10 : Int32), h a_6 = some (.inr (9, fs_7)) ∧ fs_7[1]? = some (.int z_10) ∧ ((z_10 ≤ x3 → (post x2 h)) ∧ (¬ z_10 ≤ x3 → (∃ (fs_15 : List Value) (r_18 : Option Nat), h b0 = some (.inr (0, fs_15)) ∧ fs_15[1]? = some (va_rf r_18) ∧ (∃ a_19 : Nat, r_18 = some a_19 ∧ (∃ (fs_20 : List Value) (r_23 : Option Nat), h a_19 = some (.inr (1, fs_20)) ∧ fs_20[16]? = some (va_rf r_23) ∧ (∃ a_24 : Nat, r_23 = some a_24 ∧ (∃ (fs_25 : List Value) (r_28 : Option Nat), h a_24 = some (.inr (3, fs_25)) ∧ fs_25[4]? = some (va_rf r_28) ∧ (∃ (fs_29 : List Value) (r_32 : Option Nat), h a_6 = some (.inr (9, fs_29)) ∧ fs_29[0]? = some (va_rf r_32) ∧ (∃ a_33 : Nat, r_32 = some a_33 ∧ (∃ (N_34 : Nat) (g_35 : Nat → Int32), h a_33 = some (.inl (0, N_34, .inl g_35)) ∧ vp_in x3 N_34 ∧ (∃ a_38 : Nat, r_28 = some a_38 ∧ (∃ (N_39 : Nat) (g_40 : Nat → Int32), h a_38 = some (.inl (0, N_39, .inl g_40)) ∧ vp_in (g_35 (x3).toNatClampNeg) N_39 ∧ ((¬ (g_40 ((g_35 (x3).toNatClampNeg)).toNatClampNeg) = 0 → (∃ (fs_47 : List Value) (r_50 : Option Nat), h b0 = some (.inr (0, fs_47)) ∧ fs_47[1]? = some (va_rf r_50) ∧ (∃ a_51 : Nat, r_50 = some a_51 ∧ (∃ (fs_52 : List Value) (r_55 : Option Nat), h a_51 = some (.inr (1, fs_52)) ∧ fs_52[16]? = some (va_rf r_55) ∧ (∃ a_56 : Nat, r_55 = some a_56 ∧ (∃ (fs_57 : List Value) (r_60 : Option Nat), h a_56 = some (.inr (3, fs_57)) ∧ fs_57[4]? = some (va_rf r_60) ∧ (∃ (fs_61 : List Value) (r_64 : Option Nat), h a_6 = some (.inr (9, fs_61)) ∧ fs_61[0]? = some (va_rf r_64) ∧ (∃ a_65 : Nat, r_64 = some a_65 ∧ (∃ (N_66 : Nat) (g_67 : Nat → Int32), h a_65 = some (.inl (0, N_66, .inl g_67)) ∧ vp_in x3 N_66 ∧ (∃ a_70 : Nat, r_60 = some a_70 ∧ (∃ (N_71 : Nat) (g_72 : Nat → Int32), h a_70 = some (.inl (0, N_71, .inl g_72)) ∧ vp_in (g_67 (x3).toNatClampNeg) N_71 ∧ (w_X0_said_65 post (fun (q0 : Option Nat) (q1 : Int32) (q2 : AH) (q3 : Nat) (q4 : Nat) => w_X0_said_10 post b0 x1 n0 q0 q1 q2 q3 q4) b0 x1 x2 x3 (g_72 ((g_67 (x3).toNatClampNeg)).toNatClampNeg) x2 h k n)))))))))))) ∧ ((g_40 ((g_35 (x3).toNatClampNeg)).toNatClampNeg) = 0 → (∃ (fs_75 : List Value) (r_78 : Option Nat), h a_6 = some (.inr (9, fs_75)) ∧ fs_75[0]? = some (va_rf r_78) ∧ (∃ a_79 : Nat, r_78 = some a_79 ∧ (∃ (N_80 : Nat) (g_81 : Nat → Int32), h a_79 = some (.inl (0, N_80, .inl g_81)) ∧ vp_in x3 N_80 ∧ (w_X0_said_65 post (fun (q0 : Option Nat) (q1 : Int32) (q2 : AH) (q3 : Nat) (q4 : Nat) => w_X0_said_10 post b0 x1 n0 q0 q1 q2 q3 q4) b0 x1 x2 x3 (g_81 (x3).toNatClampNeg) x2 h k n))))))))))))))))))))
def w_X0_said (post : (Option Nat) → (AH) → Prop) (b0 : Nat) (x1 : Option Nat) (h : AH) : Prop :=
 (0 + 1 ≤ 2 ∧ 0 + 2 ≤ 10 ∧ ∀ a_84 : Nat, h a_84 = none → ∀ h_86 : AH, h_86 = va_up h a_84 (some (.inr (9, dfX8))) → ((0 + 1) + 1 ≤ 2 ∧ (0 + 2) + 8 ≤ 10 ∧ (w_X8_init (fun (h_91 : AH) => (∃ n1 : Nat, (w_X0_said_10 post b0 x1 n1 (some a_84) (nI 0) h_91 ((0 + 1) + 1) ((0 + 2) + 8)))) a_84 h_86)))
theorem b_X0_said_65 {post : (Option Nat) → (AH) → Prop}   {b0 : Nat} {x1 : Option Nat} {k10 : (Option Nat) → (Int32) → (AH) → (Nat) → (Nat) → Prop}  (hk10 : ∀ (x2 : Option Nat) (x3 : Int32) (h : AH) (k : Nat) (n : Nat), k10 x2 x3 h k n → VV l E X cX0_said RX0 "said" 4 r_X0_said (some (.object "NobodysBard$Phrase")) (vpq (fun (r : Option Nat) (h' : AH) => post r h')) h k n 10 [(0, va_rf (some b0)), (1, va_rf x1), (2, va_rf x2), (3, .int x3)] []) (x2 : Option Nat) (x3 : Int32) (s0 : Int32) (s1 : Option Nat) (h : AH) (k : Nat) (n : Nat) (hw : w_X0_said_65 post k10 b0 x1 x2 x3 s0 s1 h k n) : VV l E X cX0_said RX0 "said" 4 r_X0_said (some (.object "NobodysBard$Phrase")) (vpq (fun (r : Option Nat) (h' : AH) => post r h')) h k n 65 [(0, va_rf (some b0)), (1, va_rf x1), (2, va_rf x2), (3, .int x3)] [.int s0, va_rf s1] := by
  obtain ⟨a_1, ea_1, hw⟩ := hw
  subst ea_1
  obtain ⟨fs_4, e_5, hw⟩ := hw
  refine v_callV0 q985 q559 q560 q119 q561 (ci := 9) rfl e_5 n_X8_adds ⟨Nat.le_of_ble_eq_true rfl, Nat.le_of_ble_eq_true rfl⟩ [.int s0] [] (met_X8_adds hw) rfl (Nat.zero_le _) rfl rfl dX0_said_65 rfl (v_kv (fun h_2 hv => ?_))
  clear hw
  have hw := hv
  clear hv
  obtain ⟨z_3, e_3⟩ : ∃ z9 : Int32, z9 = x3 + (nI 1) := ⟨_, rfl⟩
  replace hw := hw z_3 e_3
  refine v_iinc (q := 3) (v := z_3) (lv1 := [(3, .int z_3), (0, va_rf (some b0)), (1, va_rf x1), (2, va_rf x2)]) dX0_said_68 rfl (by rw [e_3, ic_1]) (Nat.le_of_ble_eq_true rfl) (by cases x2 <;> rfl) ?_
  refine v_goto (tgt := 10) dX0_said_71 (by decide) ?_
  refine v_sub [1, 2, 3, 0] rfl ?_
  exact hk10 x2 z_3 h_2 k n hw
theorem b_X0_said_10 {post : (Option Nat) → (AH) → Prop}   {b0 : Nat} {x1 : Option Nat}    : ∀ (n0 : Nat) (x2 : Option Nat) (x3 : Int32) (h : AH) (k : Nat) (n : Nat), w_X0_said_10 post b0 x1 n0 x2 x3 h k n → VV l E X cX0_said RX0 "said" 4 r_X0_said (some (.object "NobodysBard$Phrase")) (vpq (fun (r : Option Nat) (h' : AH) => post r h')) h k n 10 [(0, va_rf (some b0)), (1, va_rf x1), (2, va_rf x2), (3, .int x3)] [] := by
  intro n0
  induction n0 with
  | zero =>
    intro x2 x3 h k n hw
    exact hw.elim
  | succ n0 ih =>
    intro x2 x3 h k n hw
    refine v_iload_n (q := 3) dX0_said_10 rfl rfl ?_
    refine v_aload_n (q := 1) dX0_said_11 rfl rfl ?_
    obtain ⟨a_6, ea_6, hw⟩ := hw
    subst ea_6
    obtain ⟨fs_7, z_10, e_8, e_9, hw⟩ := hw
    refine v_getN in_X8 (ci := 9) rfl 1 (Nat.le_of_ble_eq_true rfl) q548 rfl dX0_said_12 e_8 e_9 ?_
    obtain ⟨hw_13, hw_14⟩ := hw
    refine v_icmp_ge (tgt := 74) dX0_said_15 (by decide) (fun c_11 => ?_) (fun c_12 => ?_)
    · have hw := hw_13 c_11
      refine v_aload_n (q := 2) dX0_said_74 rfl rfl ?_
      exact v_aret dX0_said_75 rfl (Or.inl ⟨_, rfl⟩) ⟨_, rfl, hw⟩
    · have hw := hw_14 c_12
      refine v_aload_n (q := 2) dX0_said_18 rfl rfl ?_
      refine v_aload_n (q := 0) dX0_said_19 rfl rfl ?_
      obtain ⟨fs_15, r_18, e_16, e_17, hw⟩ := hw
      refine v_get in_X0 (ci := 0) rfl 1 (Nat.le_of_ble_eq_true rfl) q319 rfl dX0_said_20 e_16 e_17 ?_
      obtain ⟨a_19, ea_19, hw⟩ := hw
      subst ea_19
      obtain ⟨fs_20, r_23, e_21, e_22, hw⟩ := hw
      refine v_getN in_X1 (ci := 1) rfl 16 (Nat.le_of_ble_eq_true rfl) q252 rfl dX0_said_23 e_21 e_22 ?_
      obtain ⟨a_24, ea_24, hw⟩ := hw
      subst ea_24
      obtain ⟨fs_25, r_28, e_26, e_27, hw⟩ := hw
      refine v_getN in_X2 (ci := 3) rfl 4 (Nat.le_of_ble_eq_true rfl) q207 rfl dX0_said_26 e_26 e_27 ?_
      refine v_aload_n (q := 1) dX0_said_29 rfl rfl ?_
      obtain ⟨fs_29, r_32, e_30, e_31, hw⟩ := hw
      refine v_getN in_X8 (ci := 9) rfl 0 (Nat.le_of_ble_eq_true rfl) q547 rfl dX0_said_30 e_30 e_31 ?_
      refine v_iload_n (q := 3) dX0_said_33 rfl rfl ?_
      obtain ⟨a_33, ea_33, hw⟩ := hw
      subst ea_33
      obtain ⟨N_34, g_35, e_36, hi_37, hw⟩ := hw
      refine v_iald dX0_said_34 e_36 hi_37 ?_
      obtain ⟨a_38, ea_38, hw⟩ := hw
      subst ea_38
      obtain ⟨N_39, g_40, e_41, hi_42, hw⟩ := hw
      refine v_iald dX0_said_35 e_41 hi_42 ?_
      obtain ⟨hw_45, hw_46⟩ := hw
      refine v_if_ne (tgt := 48) dX0_said_36 (by decide) (fun c_43 => ?_) (fun c_44 => ?_)
      · have hw := hw_45 c_43
        refine v_aload_n (q := 0) dX0_said_48 rfl rfl ?_
        obtain ⟨fs_47, r_50, e_48, e_49, hw⟩ := hw
        refine v_get in_X0 (ci := 0) rfl 1 (Nat.le_of_ble_eq_true rfl) q319 rfl dX0_said_49 e_48 e_49 ?_
        obtain ⟨a_51, ea_51, hw⟩ := hw
        subst ea_51
        obtain ⟨fs_52, r_55, e_53, e_54, hw⟩ := hw
        refine v_getN in_X1 (ci := 1) rfl 16 (Nat.le_of_ble_eq_true rfl) q252 rfl dX0_said_52 e_53 e_54 ?_
        obtain ⟨a_56, ea_56, hw⟩ := hw
        subst ea_56
        obtain ⟨fs_57, r_60, e_58, e_59, hw⟩ := hw
        refine v_getN in_X2 (ci := 3) rfl 4 (Nat.le_of_ble_eq_true rfl) q207 rfl dX0_said_55 e_58 e_59 ?_
        refine v_aload_n (q := 1) dX0_said_58 rfl rfl ?_
        obtain ⟨fs_61, r_64, e_62, e_63, hw⟩ := hw
        refine v_getN in_X8 (ci := 9) rfl 0 (Nat.le_of_ble_eq_true rfl) q547 rfl dX0_said_59 e_62 e_63 ?_
        refine v_iload_n (q := 3) dX0_said_62 rfl rfl ?_
        obtain ⟨a_65, ea_65, hw⟩ := hw
        subst ea_65
        obtain ⟨N_66, g_67, e_68, hi_69, hw⟩ := hw
        refine v_iald dX0_said_63 e_68 hi_69 ?_
        obtain ⟨a_70, ea_70, hw⟩ := hw
        subst ea_70
        obtain ⟨N_71, g_72, e_73, hi_74, hw⟩ := hw
        refine v_iald dX0_said_64 e_73 hi_74 ?_
        refine v_sub [0, 1, 2, 3] rfl ?_
        exact b_X0_said_65 (fun q0 q1 q2 q3 q4 z => ih q0 q1 q2 q3 q4 z) x2 x3 (g_72 ((g_67 (x3).toNatClampNeg)).toNatClampNeg) x2 h k n hw
      · have hw := hw_46 c_44
        refine v_aload_n (q := 1) dX0_said_39 rfl rfl ?_
        obtain ⟨fs_75, r_78, e_76, e_77, hw⟩ := hw
        refine v_getN in_X8 (ci := 9) rfl 0 (Nat.le_of_ble_eq_true rfl) q547 rfl dX0_said_40 e_76 e_77 ?_
        refine v_iload_n (q := 3) dX0_said_43 rfl rfl ?_
        obtain ⟨a_79, ea_79, hw⟩ := hw
        subst ea_79
        obtain ⟨N_80, g_81, e_82, hi_83, hw⟩ := hw
        refine v_iald dX0_said_44 e_82 hi_83 ?_
        refine v_goto (tgt := 65) dX0_said_45 (by decide) ?_
        refine v_sub [0, 1, 2, 3] rfl ?_
        exact b_X0_said_65 (fun q0 q1 q2 q3 q4 z => ih q0 q1 q2 q3 q4 z) x2 x3 (g_81 (x3).toNatClampNeg) x2 h k n hw
theorem e_X0_said {post : (Option Nat) → (AH) → Prop}   {b0 : Nat} {x1 : Option Nat} {h : AH}  (hw : w_X0_said post  b0 x1 h) : VV l E X cX0_said RX0 "said" 4 r_X0_said (some (.object "NobodysBard$Phrase")) (vpq (fun (r : Option Nat) (h' : AH) => post r h')) h 0 0 0 [(0, va_rf (some b0)), (1, va_rf x1)] [] := by
  obtain ⟨e_87, e_88, hw⟩ := hw
  refine v_new in_X8 (ci := 9) rfl tyX8 tyX8_ok q304 q540 q119 dfX8_ok e_87 e_88 dX0_said_0 (fun a_84 e_85 => ?_)
  obtain ⟨h_86, eh_86⟩ : ∃ z9 : AH, z9 = va_up h a_84 (some (.inr (9, dfX8))) := ⟨_, rfl⟩
  replace hw := hw a_84 e_85 h_86 eh_86
  rw [← eh_86]
  refine v_dup dX0_said_3 (v_rf1 _) ?_
  obtain ⟨e_93, e_94, hw⟩ := hw
  refine v_callIN q984 q542 q119 q543 rfl n_X8_init ⟨Nat.le_of_ble_eq_true rfl, Nat.le_of_ble_eq_true rfl⟩ [] [va_rf (some a_84)] (met_X8_init hw) rfl (by simp only [List.map_cons, List.map_nil, List.sum_cons, List.sum_nil, v_rf1, v_cI, v_cJ]; decide) ⟨e_93, e_94⟩ dX0_said_4 rfl (v_kv (fun h_91 hv => ?_))
  clear hw
  have hw := hv
  clear hv
  refine v_astore_n (lv1 := [(2, va_rf (some a_84)), (0, va_rf (some b0)), (1, va_rf x1)]) dX0_said_7 rfl (Nat.le_of_ble_eq_true rfl) (by cases x1 <;> rfl) ?_
  refine v_iconst dX0_said_8 ic_0 ?_
  refine v_istore_n (lv1 := [(3, .int (nI 0)), (2, va_rf (some a_84)), (0, va_rf (some b0)), (1, va_rf x1)]) dX0_said_9 rfl (Nat.le_of_ble_eq_true rfl) rfl ?_
  obtain ⟨n_92, hw⟩ := hw
  refine v_sub [2, 3, 1, 0] rfl ?_
  exact b_X0_said_10 n_92 (some a_84) (nI 0) h_91 ((0 + 1) + 1) ((0 + 2) + 8) hw
theorem met_X0_said {post : (Option Nat) → (AH) → Prop}   {b0 : Nat} {x1 : Option Nat} {h : AH}  (hw : w_X0_said post  b0 x1 h) : Mt l E yX0_said (ws_ yX0_said cX0_said 4 (some (.object "NobodysBard$Phrase"))) r_X0_said [va_rf (some b0), va_rf x1] h (vpq (fun (r : Option Nat) (h' : AH) => post r h')) := v_entry (by decide +kernel) (by cases x1 <;> exact (Nat.le_of_ble_eq_true rfl)) (by cases x1 <;> exact rfl) (fun _ => e_X0_said hw)
/-! X0_isEarly -/
abbrev r_X0_isEarly : Room := { frames := 0, cells := 0, slots := 0, locals := 0 }
theorem n_X0_isEarly : vdn yX0_isEarly 1 := ⟨by decide +kernel, by decide +kernel, by decide +kernel⟩
def w_X0_isEarly (post : (Int32) → Prop) (b0 : Nat) (x1 : Option Nat) (h : AH) : Prop :=
 (∃ a_1 : Nat, x1 = some a_1 ∧ (∃ (fs_2 : List Value) (z_5 : Int32), h a_1 = some (.inr (8, fs_2)) ∧ fs_2[3]? = some (.int z_5) ∧ (∃ (fs_6 : List Value) (r_9 : Option Nat), h b0 = some (.inr (0, fs_6)) ∧ fs_6[1]? = some (va_rf r_9) ∧ (∃ a_10 : Nat, r_9 = some a_10 ∧ (∃ (fs_11 : List Value) (z_14 : Int32), h a_10 = some (.inr (1, fs_11)) ∧ fs_11[0]? = some (.int z_14) ∧ ((z_14 < z_5 → (post (nI 0))) ∧ (¬ z_14 < z_5 → (post (nI 1)))))))))
theorem e_X0_isEarly {post : (Int32) → Prop}   {b0 : Nat} {x1 : Option Nat} {h : AH}  (hw : w_X0_isEarly post  b0 x1 h) : VV l E X cX0_isEarly RX0 "isEarly" 2 r_X0_isEarly (some .boolean) (vpi (fun (r : Int32) (h' : AH) => h' = h ∧ post r)) h 0 0 0 [(0, va_rf (some b0)), (1, va_rf x1)] [] := by
  refine v_aload_n (q := 1) dX0_isEarly_0 rfl rfl ?_
  obtain ⟨a_1, ea_1, hw⟩ := hw
  subst ea_1
  obtain ⟨fs_2, z_5, e_3, e_4, hw⟩ := hw
  refine v_getN in_X7 (ci := 8) rfl 3 (Nat.le_of_ble_eq_true rfl) q431 rfl dX0_isEarly_1 e_3 e_4 ?_
  refine v_aload_n (q := 0) dX0_isEarly_4 rfl rfl ?_
  obtain ⟨fs_6, r_9, e_7, e_8, hw⟩ := hw
  refine v_get in_X0 (ci := 0) rfl 1 (Nat.le_of_ble_eq_true rfl) q319 rfl dX0_isEarly_5 e_7 e_8 ?_
  obtain ⟨a_10, ea_10, hw⟩ := hw
  subst ea_10
  obtain ⟨fs_11, z_14, e_12, e_13, hw⟩ := hw
  refine v_getN in_X1 (ci := 1) rfl 0 (Nat.le_of_ble_eq_true rfl) q220 rfl dX0_isEarly_8 e_12 e_13 ?_
  obtain ⟨hw_17, hw_18⟩ := hw
  refine v_icmp_gt (tgt := 18) dX0_isEarly_11 (by decide) (fun c_15 => ?_) (fun c_16 => ?_)
  · have hw := hw_17 c_15
    refine v_iconst dX0_isEarly_18 ic_0 ?_
    exact v_zret dX0_isEarly_19 rfl rfl ⟨_, rfl, rfl, hw⟩
  · have hw := hw_18 c_16
    refine v_iconst dX0_isEarly_14 ic_1 ?_
    refine v_goto (tgt := 19) dX0_isEarly_15 (by decide) ?_
    exact v_zret dX0_isEarly_19 rfl rfl ⟨_, rfl, rfl, hw⟩
theorem met_X0_isEarly {post : (Int32) → Prop}   {b0 : Nat} {x1 : Option Nat} {h : AH}  (hw : w_X0_isEarly post  b0 x1 h) : Mt l E yX0_isEarly (ws_ yX0_isEarly cX0_isEarly 2 (some .boolean)) r_X0_isEarly [va_rf (some b0), va_rf x1] h (vpi (fun (r : Int32) (h' : AH) => h' = h ∧ post r)) := v_entry (by decide +kernel) (by cases x1 <;> exact (Nat.le_of_ble_eq_true rfl)) (by cases x1 <;> exact rfl) (fun _ => e_X0_isEarly hw)
end WALK
