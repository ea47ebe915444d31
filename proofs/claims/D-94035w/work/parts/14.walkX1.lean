set_option maxRecDepth 100000
section WALK
variable {l : Launch} {E : VE} {X : VX} {b : Nat → Nat}
/-! X0_isSong -/
abbrev r_X0_isSong : Room := { frames := 1, cells := 0, slots := 0, locals := 25 }
theorem n_X0_isSong : vdn yX0_isSong 1 := ⟨by decide +kernel, by decide +kernel, by decide +kernel⟩
def w_X0_isSong (post : (Int32) → Prop) (b0 : Nat) (x1 : Int32) (h : AH) : Prop :=
 (∃ (fs_1 : List Value) (r_4 : Option Nat), h b0 = some (.inr (0, fs_1)) ∧ fs_1[1]? = some (va_rf r_4) ∧ (∃ a_5 : Nat, r_4 = some a_5 ∧ (∃ (fs_6 : List Value) (r_9 : Option Nat), h a_5 = some (.inr (1, fs_6)) ∧ fs_6[3]? = some (va_rf r_9) ∧ (∃ a_10 : Nat, r_9 = some a_10 ∧ (∃ fs_14 : List Value, h a_10 = some (.inr (2, fs_14)) ∧ (w_J2_size (fun (z_11 : Int32) => (w_X0_in (fun (z_12 : Int32) => ((z_12 = nI 0 ∨ z_12 = nI 1) ∧ post z_12)) ((x1).toInt64) (lN 0) (((z_11 - (nI 1))).toInt64))) a_10 h))))))
theorem e_X0_isSong {post : (Int32) → Prop}   {b0 : Nat} {x1 : Int32} {h : AH}  (hw : w_X0_isSong post  b0 x1 h) : VV l E X cX0_isSong RX0 "isSong" 2 r_X0_isSong (some .boolean) (vpi (fun (r : Int32) (h' : AH) => h' = h ∧ post r)) h 0 0 0 [(0, va_rf (some b0)), (1, .int x1)] [] := by
  refine v_iload_n (q := 1) dX0_isSong_0 rfl rfl ?_
  refine v_i2l dX0_isSong_1 ?_
  refine v_lconst (v := lN 0) dX0_isSong_2 rfl ?_
  refine v_aload_n (q := 0) dX0_isSong_3 rfl rfl ?_
  obtain ⟨fs_1, r_4, e_2, e_3, hw⟩ := hw
  refine v_get in_X0 (ci := 0) rfl 1 (Nat.le_of_ble_eq_true rfl) q319 rfl dX0_isSong_4 e_2 e_3 ?_
  obtain ⟨a_5, ea_5, hw⟩ := hw
  subst ea_5
  obtain ⟨fs_6, r_9, e_7, e_8, hw⟩ := hw
  refine v_getN in_X1 (ci := 1) rfl 3 (Nat.le_of_ble_eq_true rfl) q226 rfl dX0_isSong_7 e_7 e_8 ?_
  obtain ⟨a_10, ea_10, hw⟩ := hw
  subst ea_10
  obtain ⟨fs_14, e_15, hw⟩ := hw
  refine v_callV q413 q414 q415 q108 q416 (ci := 2) rfl e_15 n_J2_size ⟨Nat.le_of_ble_eq_true rfl, Nat.le_of_ble_eq_true rfl⟩ [] [.long (lN 0), .long ((x1).toInt64)] (met_J2_size hw) rfl (Nat.le_of_ble_eq_true rfl) ⟨Nat.le_refl _, Nat.le_refl _⟩ dX0_isSong_10 rfl (v_ki (fun z_11 h1 hv => ?_))
  clear hw
  obtain ⟨e9, hw⟩ := hv
  refine v_heap e9 ?_
  clear e9
  refine v_iconst dX0_isSong_13 ic_1 ?_
  refine v_isub dX0_isSong_14 ?_
  refine v_i2l dX0_isSong_15 ?_
  refine v_callS q393 q394 q104 q395 n_X0_in ⟨Nat.le_of_ble_eq_true rfl, Nat.le_of_ble_eq_true rfl⟩ [.long ((x1).toInt64), .long (lN 0), .long (((z_11 - (nI 1))).toInt64)] [] (met_X0_in hw) rfl (Nat.zero_le _) ⟨Nat.le_refl _, Nat.le_refl _⟩ dX0_isSong_16 rfl (v_ki (fun z_12 h1 hv => ?_))
  clear hw
  obtain ⟨e9, hw⟩ := hv
  refine v_heap e9 ?_
  clear e9
  obtain ⟨hn_13, hw⟩ := hw
  exact v_zret dX0_isSong_19 rfl (v_z1 hn_13).1 ⟨_, rfl, rfl, hw⟩
theorem met_X0_isSong {post : (Int32) → Prop}   {b0 : Nat} {x1 : Int32} {h : AH}  (hw : w_X0_isSong post  b0 x1 h) : Mt l E yX0_isSong (ws_ yX0_isSong cX0_isSong 2 (some .boolean)) r_X0_isSong [va_rf (some b0), .int x1] h (vpi (fun (r : Int32) (h' : AH) => h' = h ∧ post r)) := v_entry (by decide +kernel) (Nat.le_of_ble_eq_true rfl) rfl (fun _ => e_X0_isSong hw)
/-! X0_isBook -/
abbrev r_X0_isBook : Room := { frames := 1, cells := 0, slots := 0, locals := 25 }
theorem n_X0_isBook : vdn yX0_isBook 1 := ⟨by decide +kernel, by decide +kernel, by decide +kernel⟩
def w_X0_isBook (post : (Int32) → Prop) (b0 : Nat) (x1 : Int32) (h : AH) : Prop :=
 (∃ (fs_1 : List Value) (r_4 : Option Nat), h b0 = some (.inr (0, fs_1)) ∧ fs_1[1]? = some (va_rf r_4) ∧ (∃ a_5 : Nat, r_4 = some a_5 ∧ (∃ (fs_6 : List Value) (r_9 : Option Nat), h a_5 = some (.inr (1, fs_6)) ∧ fs_6[4]? = some (va_rf r_9) ∧ (∃ a_10 : Nat, r_9 = some a_10 ∧ (∃ fs_14 : List Value, h a_10 = some (.inr (2, fs_14)) ∧ (w_J2_size (fun (z_11 : Int32) => (w_X0_in (fun (z_12 : Int32) => ((z_12 = nI 0 ∨ z_12 = nI 1) ∧ post z_12)) ((x1).toInt64) (lN 0) (((z_11 - (nI 1))).toInt64))) a_10 h))))))
theorem e_X0_isBook {post : (Int32) → Prop}   {b0 : Nat} {x1 : Int32} {h : AH}  (hw : w_X0_isBook post  b0 x1 h) : VV l E X cX0_isBook RX0 "isBook" 2 r_X0_isBook (some .boolean) (vpi (fun (r : Int32) (h' : AH) => h' = h ∧ post r)) h 0 0 0 [(0, va_rf (some b0)), (1, .int x1)] [] := by
  refine v_iload_n (q := 1) dX0_isBook_0 rfl rfl ?_
  refine v_i2l dX0_isBook_1 ?_
  refine v_lconst (v := lN 0) dX0_isBook_2 rfl ?_
  refine v_aload_n (q := 0) dX0_isBook_3 rfl rfl ?_
  obtain ⟨fs_1, r_4, e_2, e_3, hw⟩ := hw
  refine v_get in_X0 (ci := 0) rfl 1 (Nat.le_of_ble_eq_true rfl) q319 rfl dX0_isBook_4 e_2 e_3 ?_
  obtain ⟨a_5, ea_5, hw⟩ := hw
  subst ea_5
  obtain ⟨fs_6, r_9, e_7, e_8, hw⟩ := hw
  refine v_getN in_X1 (ci := 1) rfl 4 (Nat.le_of_ble_eq_true rfl) q228 rfl dX0_isBook_7 e_7 e_8 ?_
  obtain ⟨a_10, ea_10, hw⟩ := hw
  subst ea_10
  obtain ⟨fs_14, e_15, hw⟩ := hw
  refine v_callV q413 q414 q415 q108 q416 (ci := 2) rfl e_15 n_J2_size ⟨Nat.le_of_ble_eq_true rfl, Nat.le_of_ble_eq_true rfl⟩ [] [.long (lN 0), .long ((x1).toInt64)] (met_J2_size hw) rfl (Nat.le_of_ble_eq_true rfl) ⟨Nat.le_refl _, Nat.le_refl _⟩ dX0_isBook_10 rfl (v_ki (fun z_11 h1 hv => ?_))
  clear hw
  obtain ⟨e9, hw⟩ := hv
  refine v_heap e9 ?_
  clear e9
  refine v_iconst dX0_isBook_13 ic_1 ?_
  refine v_isub dX0_isBook_14 ?_
  refine v_i2l dX0_isBook_15 ?_
  refine v_callS q393 q394 q104 q395 n_X0_in ⟨Nat.le_of_ble_eq_true rfl, Nat.le_of_ble_eq_true rfl⟩ [.long ((x1).toInt64), .long (lN 0), .long (((z_11 - (nI 1))).toInt64)] [] (met_X0_in hw) rfl (Nat.zero_le _) ⟨Nat.le_refl _, Nat.le_refl _⟩ dX0_isBook_16 rfl (v_ki (fun z_12 h1 hv => ?_))
  clear hw
  obtain ⟨e9, hw⟩ := hv
  refine v_heap e9 ?_
  clear e9
  obtain ⟨hn_13, hw⟩ := hw
  exact v_zret dX0_isBook_19 rfl (v_z1 hn_13).1 ⟨_, rfl, rfl, hw⟩
theorem met_X0_isBook {post : (Int32) → Prop}   {b0 : Nat} {x1 : Int32} {h : AH}  (hw : w_X0_isBook post  b0 x1 h) : Mt l E yX0_isBook (ws_ yX0_isBook cX0_isBook 2 (some .boolean)) r_X0_isBook [va_rf (some b0), .int x1] h (vpi (fun (r : Int32) (h' : AH) => h' = h ∧ post r)) := v_entry (by decide +kernel) (Nat.le_of_ble_eq_true rfl) rfl (fun _ => e_X0_isBook hw)
/-! X0_hasWords -/
abbrev r_X0_hasWords : Room := { frames := 0, cells := 0, slots := 0, locals := 0 }
theorem n_X0_hasWords : vdn yX0_hasWords 1 := ⟨by decide +kernel, by decide +kernel, by decide +kernel⟩
def w_X0_hasWords (post : (Int32) → Prop) (x0 : Int64) : Prop :=
 (((lg_cmp ((x0).toUInt64 >>> (((nI 56)).toInt64.toUInt64 &&& Int64.toUInt64 63)).toInt64 (lN 0)) = 0 → (post (nI 0))) ∧ (¬ (lg_cmp ((x0).toUInt64 >>> (((nI 56)).toInt64.toUInt64 &&& Int64.toUInt64 63)).toInt64 (lN 0)) = 0 → (post (nI 1))))
theorem e_X0_hasWords {post : (Int32) → Prop}   {x0 : Int64} {h : AH}  (hw : w_X0_hasWords post  x0) : VV l E X cX0_hasWords RX0 "hasWords" 2 r_X0_hasWords (some .boolean) (vpi (fun (r : Int32) (h' : AH) => h' = h ∧ post r)) h 0 0 0 [(0, .long x0)] [] := by
  refine v_lload_n (q := 0) dX0_hasWords_0 rfl rfl ?_
  refine v_bipush dX0_hasWords_1 bp_56 ?_
  refine v_lushr dX0_hasWords_3 ?_
  refine v_lconst (v := lN 0) dX0_hasWords_4 rfl ?_
  refine v_lcmp dX0_hasWords_5 ?_
  obtain ⟨hw_3, hw_4⟩ := hw
  refine v_if_eq (tgt := 13) dX0_hasWords_6 (by decide) (fun c_1 => ?_) (fun c_2 => ?_)
  · have hw := hw_3 c_1
    refine v_iconst dX0_hasWords_13 ic_0 ?_
    exact v_zret dX0_hasWords_14 rfl rfl ⟨_, rfl, rfl, hw⟩
  · have hw := hw_4 c_2
    refine v_iconst dX0_hasWords_9 ic_1 ?_
    refine v_goto (tgt := 14) dX0_hasWords_10 (by decide) ?_
    exact v_zret dX0_hasWords_14 rfl rfl ⟨_, rfl, rfl, hw⟩
theorem met_X0_hasWords {post : (Int32) → Prop}   {x0 : Int64} {h : AH}  (hw : w_X0_hasWords post  x0) : Mt l E yX0_hasWords (ws_ yX0_hasWords cX0_hasWords 2 (some .boolean)) r_X0_hasWords [.long x0] h (vpi (fun (r : Int32) (h' : AH) => h' = h ∧ post r)) := v_entry (by decide +kernel) (Nat.le_of_ble_eq_true rfl) rfl (fun _ => e_X0_hasWords hw)
/-! X8_init -/
abbrev r_X8_init : Room := { frames := 1, cells := 1, slots := 8, locals := 20 }
theorem n_X8_init : vdn yX8_init 0 := ⟨by decide +kernel, by decide +kernel, by decide +kernel⟩
def w_X8_init (post : (AH) → Prop) (b0 : Nat) (h : AH) : Prop :=
 (∃ N_8 : Nat, ¬ (nI 8) < 0 ∧ ((nI 8)).toNatClampNeg = N_8 ∧ (N_8 ≤ 65536 ∧ 0 + 1 ≤ 1) ∧ 0 + N_8 ≤ 8 ∧ ∀ a_1 : Nat, h a_1 = none → ∀ h_3 : AH, h_3 = va_up h a_1 (some (.inl (0, N_8, .inl (fun _ => 0)))) → (∃ fs_9 : List Value, h_3 b0 = some (.inr (9, fs_9)) ∧ 0 < fs_9.length ∧ ∀ h_12 : AH, h_12 = va_up h_3 b0 (some (.inr (9, fs_9.set 0 (va_rf (some a_1))))) → (post h_12)))
theorem e_X8_init {post : (AH) → Prop}   {b0 : Nat} {h : AH}  (hw : w_X8_init post  b0 h) : VV l E X cX8_init RX8 "<init>" 1 r_X8_init none (vpv (fun (h' : AH) => post h')) h 0 0 0 [(0, va_rf (some b0))] [] := by
  refine v_aload_n (q := 0) dX8_init_0 rfl rfl ?_
  refine v_objInit q544 q154 q155 (Nat.zero_le _) (Nat.le_of_ble_eq_true rfl) (Nat.le_of_ble_eq_true rfl) dX8_init_1 ?_
  refine v_aload_n (q := 0) dX8_init_4 rfl rfl ?_
  refine v_bipush dX8_init_5 bp_8 ?_
  obtain ⟨N_8, e_4, e_7, e_5, e_6, hw⟩ := hw
  refine v_newaI q190 e_4 e_7 (Nat.le_trans (Nat.mul_le_mul_right _ e_5.1) (by decide)) e_5.2 e_6 dX8_init_7 (fun a_1 e_2 => ?_)
  obtain ⟨h_3, eh_3⟩ : ∃ z9 : AH, z9 = va_up h a_1 (some (.inl (0, N_8, .inl (fun _ => 0)))) := ⟨_, rfl⟩
  replace hw := hw a_1 e_2 h_3 eh_3
  rw [← eh_3]
  obtain ⟨fs_9, e_10, e_11, hw⟩ := hw
  obtain ⟨h_12, eh_12⟩ : ∃ z9 : AH, z9 = va_up h_3 b0 (some (.inr (9, fs_9.set 0 (va_rf (some a_1))))) := ⟨_, rfl⟩
  replace hw := hw h_12 eh_12
  refine v_putF in_X8 (ci := 9) rfl 0 (Nat.le_of_ble_eq_true rfl) tyX8 tyX8_ok nmX8 q545 rfl rfl rfl rfl rfl (v_rfa _ _).1 (v_rfa _ _).2 dX8_init_9 e_10 e_11 ?_
  rw [← eh_12]
  exact v_vret dX8_init_12 rfl ⟨rfl, hw⟩
theorem met_X8_init {post : (AH) → Prop}   {b0 : Nat} {h : AH}  (hw : w_X8_init post  b0 h) : Mt l E yX8_init (ws_ yX8_init cX8_init 1 none) r_X8_init [va_rf (some b0)] h (vpv (fun (h' : AH) => post h')) := v_entry (by decide +kernel) (Nat.le_of_ble_eq_true rfl) rfl (fun _ => e_X8_init hw)
/-! X8_adds -/
abbrev r_X8_adds : Room := { frames := 0, cells := 0, slots := 0, locals := 0 }
theorem n_X8_adds : vdn yX8_adds 1 := ⟨by decide +kernel, by decide +kernel, by decide +kernel⟩
def w_X8_adds (post : (AH) → Prop) (b0 : Nat) (x1 : Int32) (h : AH) : Prop :=
 (∃ (fs_1 : List Value) (r_4 : Option Nat), h b0 = some (.inr (9, fs_1)) ∧ fs_1[0]? = some (va_rf r_4) ∧ (∃ (fs_5 : List Value) (z_8 : Int32), h b0 = some (.inr (9, fs_5)) ∧ fs_5[1]? = some (.int z_8) ∧ (∃ a_9 : Nat, r_4 = some a_9 ∧ (∃ (N_10 : Nat) (g_11 : Nat → Int32), h a_9 = some (.inl (0, N_10, .inl g_11)) ∧ vp_in z_8 N_10 ∧ ∀ h_14 : AH, h_14 = va_up h a_9 (some (.inl (0, N_10, .inl (upd g_11 (z_8).toNatClampNeg x1)))) → (∃ (fs_15 : List Value) (z_18 : Int32), h_14 b0 = some (.inr (9, fs_15)) ∧ fs_15[1]? = some (.int z_18) ∧ (∃ fs_19 : List Value, h_14 b0 = some (.inr (9, fs_19)) ∧ 1 < fs_19.length ∧ ∀ h_22 : AH, h_22 = va_up h_14 b0 (some (.inr (9, fs_19.set 1 (.int (z_18 + (nI 1)))))) → (post h_22)))))))
theorem e_X8_adds {post : (AH) → Prop}   {b0 : Nat} {x1 : Int32} {h : AH}  (hw : w_X8_adds post  b0 x1 h) : VV l E X cX8_adds RX8 "adds" 2 r_X8_adds none (vpv (fun (h' : AH) => post h')) h 0 0 0 [(0, va_rf (some b0)), (1, .int x1)] [] := by
  refine v_aload_n (q := 0) dX8_adds_0 rfl rfl ?_
  obtain ⟨fs_1, r_4, e_2, e_3, hw⟩ := hw
  refine v_get in_X8 (ci := 9) rfl 0 (Nat.le_of_ble_eq_true rfl) q545 rfl dX8_adds_1 e_2 e_3 ?_
  refine v_aload_n (q := 0) dX8_adds_4 rfl rfl ?_
  obtain ⟨fs_5, z_8, e_6, e_7, hw⟩ := hw
  refine v_get in_X8 (ci := 9) rfl 1 (Nat.le_of_ble_eq_true rfl) q551 rfl dX8_adds_5 e_6 e_7 ?_
  refine v_iload_n (q := 1) dX8_adds_8 rfl rfl ?_
  obtain ⟨a_9, ea_9, hw⟩ := hw
  subst ea_9
  obtain ⟨N_10, g_11, e_12, hi_13, hw⟩ := hw
  obtain ⟨h_14, eh_14⟩ : ∃ z9 : AH, z9 = va_up h a_9 (some (.inl (0, N_10, .inl (upd g_11 (z_8).toNatClampNeg x1)))) := ⟨_, rfl⟩
  replace hw := hw h_14 eh_14
  refine v_iast dX8_adds_9 e_12 hi_13 ?_
  rw [← eh_14]
  refine v_aload_n (q := 0) dX8_adds_10 rfl rfl ?_
  refine v_dup dX8_adds_11 (v_rf1 _) ?_
  obtain ⟨fs_15, z_18, e_16, e_17, hw⟩ := hw
  refine v_get in_X8 (ci := 9) rfl 1 (Nat.le_of_ble_eq_true rfl) q551 rfl dX8_adds_12 e_16 e_17 ?_
  refine v_iconst dX8_adds_15 ic_1 ?_
  refine v_iadd dX8_adds_16 ?_
  obtain ⟨fs_19, e_20, e_21, hw⟩ := hw
  obtain ⟨h_22, eh_22⟩ : ∃ z9 : AH, z9 = va_up h_14 b0 (some (.inr (9, fs_19.set 1 (.int (z_18 + (nI 1)))))) := ⟨_, rfl⟩
  replace hw := hw h_22 eh_22
  refine v_put in_X8 (ci := 9) rfl 1 (Nat.le_of_ble_eq_true rfl) tyX8 tyX8_ok nmX8 q551 rfl rfl rfl rfl rfl dX8_adds_17 e_20 e_21 ?_
  rw [← eh_22]
  exact v_vret dX8_adds_20 rfl ⟨rfl, hw⟩
theorem met_X8_adds {post : (AH) → Prop}   {b0 : Nat} {x1 : Int32} {h : AH}  (hw : w_X8_adds post  b0 x1 h) : Mt l E yX8_adds (ws_ yX8_adds cX8_adds 2 none) r_X8_adds [va_rf (some b0), .int x1] h (vpv (fun (h' : AH) => post h')) := v_entry (by decide +kernel) (Nat.le_of_ble_eq_true rfl) rfl (fun _ => e_X8_adds hw)
/-! X8_of -/
abbrev r_X8_of : Room := { frames := 2, cells := 2, slots := 10, locals := 40 }
theorem n_X8_of : vdn yX8_of 1 := ⟨by decide +kernel, by decide +kernel, by decide +kernel⟩
def w_X8_of_45 (post : (Option Nat) → (AH) → Prop) (x0 : Int64) (x2 : Option Nat) (h : AH) (k : Nat) (n : Nat) : Prop :=
 (post x2 h)
def w_X8_of_11 (post : (Option Nat) → (AH) → Prop) (x0 : Int64) : Nat → (Option Nat) → (Int32) → (AH) → (Nat) → (Nat) → Prop
 | 0, _, _, _, _, _ => False
 | n0 + 1, x2, x3, h, k, n =>
 ((x3 < 0 → (w_X8_of_45 post x0 x2 h k n)) ∧ (¬ x3 < 0 → (∀ z_5 : Int32, z_5 = (((((x0).toUInt64 >>> ((x3).toInt64.toUInt64 &&& Int64.toUInt64 63)).toInt64).toInt32) &&& (nI 255)) → ((¬ z_5 = 0 → (∃ a_10 : Nat, x2 = some a_10 ∧ (∃ fs_13 : List Value, h a_10 = some (.inr (9, fs_13)) ∧ (w_X8_adds (fun (h_11 : AH) => (∀ z_12 : Int32, z_12 = x3 + (-8) → (w_X8_of_11 post x0 n0 (some a_10) z_12 h_11 k n))) a_10 z_5 h)))) ∧ (z_5 = 0 → (w_X8_of_45 post x0 x2 h k n))))))
def w_X8_of (post : (Option Nat) → (AH) → Prop) (x0 : Int64) (h : AH) : Prop :=
 (0 + 1 ≤ 2 ∧ 0 + 2 ≤ 10 ∧ ∀ a_15 : Nat, h a_15 = none → ∀ h_17 : AH, h_17 = va_up h a_15 (some (.inr (9, dfX8))) → ((0 + 1) + 1 ≤ 2 ∧ (0 + 2) + 8 ≤ 10 ∧ (w_X8_init (fun (h_22 : AH) => (∃ n1 : Nat, (w_X8_of_11 post x0 n1 (some a_15) (nI 56) h_22 ((0 + 1) + 1) ((0 + 2) + 8)))) a_15 h_17)))
theorem b_X8_of_45 {post : (Option Nat) → (AH) → Prop}   {x0 : Int64}    (x2 : Option Nat) (h : AH) (k : Nat) (n : Nat) (hw : w_X8_of_45 post x0 x2 h k n) : VV l E X cX8_of RX8 "of" 5 r_X8_of (some (.object "NobodysBard$Phrase")) (vpq (fun (r : Option Nat) (h' : AH) => post r h')) h k n 45 [(0, .long x0), (2, va_rf x2)] [] := by
  refine v_aload_n (q := 1) dX8_of_45 rfl rfl ?_
  exact v_aret dX8_of_46 rfl (Or.inl ⟨_, rfl⟩) ⟨_, rfl, hw⟩
theorem b_X8_of_11 {post : (Option Nat) → (AH) → Prop}   {x0 : Int64}    : ∀ (n0 : Nat) (x2 : Option Nat) (x3 : Int32) (h : AH) (k : Nat) (n : Nat), w_X8_of_11 post x0 n0 x2 x3 h k n → VV l E X cX8_of RX8 "of" 5 r_X8_of (some (.object "NobodysBard$Phrase")) (vpq (fun (r : Option Nat) (h' : AH) => post r h')) h k n 11 [(0, .long x0), (2, va_rf x2), (3, .int x3)] [] := by
  intro n0
  induction n0 with
  | zero =>
    intro x2 x3 h k n hw
    exact hw.elim
  | succ n0 ih =>
    intro x2 x3 h k n hw
    refine v_iload_n (q := 2) dX8_of_11 rfl rfl ?_
    obtain ⟨hw_3, hw_4⟩ := hw
    refine v_if_lt (tgt := 45) dX8_of_12 (by decide) (fun c_1 => ?_) (fun c_2 => ?_)
    · have hw := hw_3 c_1
      refine v_sub [0, 1] rfl ?_
      exact b_X8_of_45 x2 h k n hw
    · have hw := hw_4 c_2
      refine v_lload_n (q := 0) dX8_of_15 rfl rfl ?_
      refine v_iload_n (q := 2) dX8_of_16 rfl rfl ?_
      refine v_lushr dX8_of_17 ?_
      refine v_l2i dX8_of_18 ?_
      refine v_sipush dX8_of_19 sp_255 ?_
      refine v_iand dX8_of_22 ?_
      refine v_topi (fun z_5 e_5 => ?_)
      replace hw := hw z_5 e_5
      refine v_istore (lv1 := [(4, .int z_5), (0, .long x0), (2, va_rf x2), (3, .int x3)]) dX8_of_23 (Nat.le_of_ble_eq_true rfl) rfl ?_
      refine v_iload (q := 0) dX8_of_25 rfl ?_
      obtain ⟨hw_8, hw_9⟩ := hw
      refine v_if_ne (tgt := 33) dX8_of_27 (by decide) (fun c_6 => ?_) (fun c_7 => ?_)
      · have hw := hw_8 c_6
        refine v_aload_n (q := 2) dX8_of_33 rfl rfl ?_
        refine v_iload (q := 0) dX8_of_34 rfl ?_
        obtain ⟨a_10, ea_10, hw⟩ := hw
        subst ea_10
        obtain ⟨fs_13, e_14, hw⟩ := hw
        refine v_callV0 q558 q559 q560 q119 q561 (ci := 9) rfl e_14 n_X8_adds ⟨Nat.le_of_ble_eq_true rfl, Nat.le_of_ble_eq_true rfl⟩ [.int z_5] [] (met_X8_adds hw) rfl (Nat.zero_le _) rfl rfl dX8_of_36 rfl (v_kv (fun h_11 hv => ?_))
        clear hw
        have hw := hv
        clear hv
        obtain ⟨z_12, e_12⟩ : ∃ z9 : Int32, z9 = x3 + (-8) := ⟨_, rfl⟩
        replace hw := hw z_12 e_12
        refine v_iinc (q := 3) (v := z_12) (lv1 := [(3, .int z_12), (4, .int z_5), (0, .long x0), (2, va_rf (some a_10))]) dX8_of_39 rfl (by rw [e_12, ic_m8]) (Nat.le_of_ble_eq_true rfl) rfl ?_
        refine v_goto (tgt := 11) dX8_of_42 (by decide) ?_
        refine v_sub [2, 3, 0] rfl ?_
        exact ih (some a_10) z_12 h_11 k n hw
      · have hw := hw_9 c_7
        refine v_goto (tgt := 45) dX8_of_30 (by decide) ?_
        refine v_sub [1, 2] rfl ?_
        exact b_X8_of_45 x2 h k n hw
theorem e_X8_of {post : (Option Nat) → (AH) → Prop}   {x0 : Int64} {h : AH}  (hw : w_X8_of post  x0 h) : VV l E X cX8_of RX8 "of" 5 r_X8_of (some (.object "NobodysBard$Phrase")) (vpq (fun (r : Option Nat) (h' : AH) => post r h')) h 0 0 0 [(0, .long x0)] [] := by
  obtain ⟨e_18, e_19, hw⟩ := hw
  refine v_new in_X8 (ci := 9) rfl tyX8 tyX8_ok q539 q540 q119 dfX8_ok e_18 e_19 dX8_of_0 (fun a_15 e_16 => ?_)
  obtain ⟨h_17, eh_17⟩ : ∃ z9 : AH, z9 = va_up h a_15 (some (.inr (9, dfX8))) := ⟨_, rfl⟩
  replace hw := hw a_15 e_16 h_17 eh_17
  rw [← eh_17]
  refine v_dup dX8_of_3 (v_rf1 _) ?_
  obtain ⟨e_24, e_25, hw⟩ := hw
  refine v_callI q541 q542 q119 q543 rfl n_X8_init ⟨Nat.le_of_ble_eq_true rfl, Nat.le_of_ble_eq_true rfl⟩ [] [va_rf (some a_15)] (met_X8_init hw) rfl (by simp only [List.map_cons, List.map_nil, List.sum_cons, List.sum_nil, v_rf1, v_cI, v_cJ]; decide) ⟨e_24, e_25⟩ dX8_of_4 rfl (v_kv (fun h_22 hv => ?_))
  clear hw
  have hw := hv
  clear hv
  refine v_astore_n (lv1 := [(2, va_rf (some a_15)), (0, .long x0)]) dX8_of_7 rfl (Nat.le_of_ble_eq_true rfl) rfl ?_
  refine v_bipush dX8_of_8 bp_56 ?_
  refine v_istore_n (lv1 := [(3, .int (nI 56)), (2, va_rf (some a_15)), (0, .long x0)]) dX8_of_10 rfl (Nat.le_of_ble_eq_true rfl) rfl ?_
  obtain ⟨n_23, hw⟩ := hw
  refine v_sub [2, 1, 0] rfl ?_
  exact b_X8_of_11 n_23 (some a_15) (nI 56) h_22 ((0 + 1) + 1) ((0 + 2) + 8) hw
theorem met_X8_of {post : (Option Nat) → (AH) → Prop}   {x0 : Int64} {h : AH}  (hw : w_X8_of post  x0 h) : Mt l E yX8_of (ws_ yX8_of cX8_of 5 (some (.object "NobodysBard$Phrase"))) r_X8_of [.long x0] h (vpq (fun (r : Option Nat) (h' : AH) => post r h')) := v_entry (by decide +kernel) (Nat.le_of_ble_eq_true rfl) rfl (fun _ => e_X8_of hw)
/-! X9_init -/
abbrev r_X9_init : Room := { frames := 1, cells := 0, slots := 0, locals := 20 }
theorem n_X9_init : vdn yX9_init 2 := ⟨by decide +kernel, by decide +kernel, by decide +kernel⟩
def w_X9_init (post : (AH) → Prop) (b0 : Nat) (x1 : Option Nat) (x2 : Int32) (h : AH) : Prop :=
 (∃ fs_1 : List Value, h b0 = some (.inr (10, fs_1)) ∧ 0 < fs_1.length ∧ ∀ h_4 : AH, h_4 = va_up h b0 (some (.inr (10, fs_1.set 0 (va_rf x1)))) → (∃ fs_5 : List Value, h_4 b0 = some (.inr (10, fs_5)) ∧ 1 < fs_5.length ∧ ∀ h_8 : AH, h_8 = va_up h_4 b0 (some (.inr (10, fs_5.set 1 (.int x2)))) → (post h_8)))
theorem e_X9_init {post : (AH) → Prop}   {b0 : Nat} {x1 : Option Nat} {x2 : Int32} {h : AH}  (hw : w_X9_init post  b0 x1 x2 h) : VV l E X cX9_init RX9 "<init>" 3 r_X9_init none (vpv (fun (h' : AH) => post h')) h 0 0 0 [(0, va_rf (some b0)), (1, va_rf x1), (2, .int x2)] [] := by
  refine v_aload_n (q := 0) dX9_init_0 rfl rfl ?_
  refine v_objInit q567 q154 q155 (Nat.zero_le _) (Nat.le_of_ble_eq_true rfl) (Nat.le_of_ble_eq_true rfl) dX9_init_1 ?_
  refine v_aload_n (q := 0) dX9_init_4 rfl rfl ?_
  refine v_aload_n (q := 1) dX9_init_5 rfl rfl ?_
  obtain ⟨fs_1, e_2, e_3, hw⟩ := hw
  obtain ⟨h_4, eh_4⟩ : ∃ z9 : AH, z9 = va_up h b0 (some (.inr (10, fs_1.set 0 (va_rf x1)))) := ⟨_, rfl⟩
  replace hw := hw h_4 eh_4
  refine v_putF in_X9 (ci := 10) rfl 0 (Nat.le_of_ble_eq_true rfl) tyX9 tyX9_ok nmX9 q568 rfl rfl rfl rfl rfl (v_rfn _ _).1 (v_rfn _ _).2 dX9_init_6 e_2 e_3 ?_
  rw [← eh_4]
  refine v_aload_n (q := 0) dX9_init_9 rfl rfl ?_
  refine v_iload_n (q := 2) dX9_init_10 rfl rfl ?_
  obtain ⟨fs_5, e_6, e_7, hw⟩ := hw
  obtain ⟨h_8, eh_8⟩ : ∃ z9 : AH, z9 = va_up h_4 b0 (some (.inr (10, fs_5.set 1 (.int x2)))) := ⟨_, rfl⟩
  replace hw := hw h_8 eh_8
  refine v_putF in_X9 (ci := 10) rfl 1 (Nat.le_of_ble_eq_true rfl) tyX9 tyX9_ok nmX9 q570 rfl rfl rfl rfl rfl rfl rfl dX9_init_11 e_6 e_7 ?_
  rw [← eh_8]
  exact v_vret dX9_init_14 rfl ⟨rfl, hw⟩
theorem met_X9_init {post : (AH) → Prop}   {b0 : Nat} {x1 : Option Nat} {x2 : Int32} {h : AH}  (hw : w_X9_init post  b0 x1 x2 h) : Mt l E yX9_init (ws_ yX9_init cX9_init 3 none) r_X9_init [va_rf (some b0), va_rf x1, .int x2] h (vpv (fun (h' : AH) => post h')) := v_entry (by decide +kernel) (by cases x1 <;> exact (Nat.le_of_ble_eq_true rfl)) (by cases x1 <;> exact rfl) (fun _ => e_X9_init hw)
/-! X0_line -/
abbrev r_X0_line : Room := { frames := 8, cells := 6, slots := 100, locals := 228 }
theorem n_X0_line : vdn yX0_line 4 := ⟨by decide +kernel, by decide +kernel, by decide +kernel⟩
def w_X0_line_37 (post : (Int32) → (AH) → Prop) (b0 : Nat) (x1 : Int32) (x2 : Int32) (x3 : Int32) (x4 : Int64) (h : AH) (k : Nat) (n : Nat) : Prop :=
 (∃ fs_3 : List Value, h b0 = some (.inr (0, fs_3)) ∧ (w_X0_refuse (fun (z_1 : Int32) (h_2 : AH) => (post z_1 h_2)) b0 (-2) h))
def w_X0_line_64 (post : (Int32) → (AH) → Prop) (b0 : Nat) (x1 : Int32) (x2 : Int32) (x3 : Int32) (x4 : Int64) (h : AH) (k : Nat) (n : Nat) : Prop :=
 (∃ fs_7 : List Value, h b0 = some (.inr (0, fs_7)) ∧ (w_X0_refuse (fun (z_5 : Int32) (h_6 : AH) => (post z_5 h_6)) b0 (-3) h))
def w_X0_line_180 (post : (Int32) → (AH) → Prop) (b0 : Nat) (x1 : Int32) (x2 : Int32) (x3 : Int32) (x4 : Int64) (x6 : Option Nat) (s0 : Option Nat) (h : AH) (k : Nat) (n : Nat) : Prop :=
 (∃ a_9 : Nat, s0 = some a_9 ∧ (∃ fs_32 : List Value, h a_9 = some (.inr (2, fs_32)) ∧ (w_J2_size (fun (z_10 : Int32) => ((¬ z_10 = (nI 12) → (∃ fs_15 : List Value, h b0 = some (.inr (0, fs_15)) ∧ 16 < fs_15.length ∧ ∀ h_18 : AH, h_18 = va_up h b0 (some (.inr (0, fs_15.set 16 (.int (nI 0))))) → (∃ fs_26 : List Value, h_18 a_9 = some (.inr (2, fs_26)) ∧ (k + 1 ≤ 6 ∧ n + 63 ≤ 100 ∧ (w_J2_add (fun (z_19 : Int32) (h_20 : AH) => (∃ fs_22 : List Value, h_20 a_9 = some (.inr (2, fs_22)) ∧ (w_J2_size (fun (z_21 : Int32) => (post (z_21 - (nI 1)) h_20)) a_9 h_20))) a_9 x6 h_18))))) ∧ (z_10 = (nI 12) → (∃ fs_30 : List Value, h b0 = some (.inr (0, fs_30)) ∧ (w_X0_refuse (fun (z_28 : Int32) (h_29 : AH) => (post z_28 h_29)) b0 (-4) h))))) a_9 h)))
def w_X0_line_56 (post : (Int32) → (AH) → Prop) (b0 : Nat) (x1 : Int32) (x2 : Int32) (x3 : Int32) (x4 : Int64) (h : AH) (k : Nat) (n : Nat) : Prop :=
 (w_X0_hasWords (fun (z_34 : Int32) => ((¬ z_34 = 0 → (k + 2 ≤ 6 ∧ n + 10 ≤ 100 ∧ (w_X8_of (fun (r_39 : Option Nat) (h_40 : AH) => ((¬ x1 = (nI 2) → ((¬ x1 = 0 → (∃ (fs_49 : List Value) (r_52 : Option Nat), h_40 b0 = some (.inr (0, fs_49)) ∧ fs_49[1]? = some (va_rf r_52) ∧ (∃ a_53 : Nat, r_52 = some a_53 ∧ (∃ (fs_54 : List Value) (r_57 : Option Nat), h_40 a_53 = some (.inr (1, fs_54)) ∧ fs_54[4]? = some (va_rf r_57) ∧ (∃ a_58 : Nat, r_57 = some a_58 ∧ (∃ fs_67 : List Value, h_40 a_58 = some (.inr (2, fs_67)) ∧ (w_J2_get (fun (r_59 : Option Nat) => (∃ a_60 : Nat, r_59 = some a_60 ∧ (∃ fs_61 : List Value, h_40 a_60 = some (.inr (8, fs_61)) ∧ (∃ (fs_63 : List Value) (r_66 : Option Nat), h_40 a_60 = some (.inr (8, fs_63)) ∧ fs_63[4]? = some (va_rf r_66) ∧ (w_X0_line_180 post b0 x1 x2 x3 x4 r_39 r_66 h_40 (k + 2) (n + 10)))))) a_58 x2 h_40))))))) ∧ (x1 = 0 → (∃ (fs_69 : List Value) (r_72 : Option Nat), h_40 b0 = some (.inr (0, fs_69)) ∧ fs_69[1]? = some (va_rf r_72) ∧ (∃ a_73 : Nat, r_72 = some a_73 ∧ (∃ (fs_74 : List Value) (r_77 : Option Nat), h_40 a_73 = some (.inr (1, fs_74)) ∧ fs_74[3]? = some (va_rf r_77) ∧ (∃ a_78 : Nat, r_77 = some a_78 ∧ (∃ fs_87 : List Value, h_40 a_78 = some (.inr (2, fs_87)) ∧ (w_J2_get (fun (r_79 : Option Nat) => (∃ a_80 : Nat, r_79 = some a_80 ∧ (∃ fs_81 : List Value, h_40 a_80 = some (.inr (8, fs_81)) ∧ (∃ (fs_83 : List Value) (r_86 : Option Nat), h_40 a_80 = some (.inr (8, fs_83)) ∧ fs_83[4]? = some (va_rf r_86) ∧ (w_X0_line_180 post b0 x1 x2 x3 x4 r_39 r_86 h_40 (k + 2) (n + 10)))))) a_78 x2 h_40))))))))) ∧ (x1 = (nI 2) → (∃ (fs_89 : List Value) (r_92 : Option Nat), h_40 b0 = some (.inr (0, fs_89)) ∧ fs_89[1]? = some (va_rf r_92) ∧ (∃ a_93 : Nat, r_92 = some a_93 ∧ (∃ (fs_94 : List Value) (r_97 : Option Nat), h_40 a_93 = some (.inr (1, fs_94)) ∧ fs_94[5]? = some (va_rf r_97) ∧ (∃ a_98 : Nat, r_97 = some a_98 ∧ (∃ fs_145 : List Value, h_40 a_98 = some (.inr (2, fs_145)) ∧ (w_J2_size (fun (z_99 : Int32) => ((¬ z_99 = (nI 60) → (∃ (fs_104 : List Value) (r_107 : Option Nat), h_40 b0 = some (.inr (0, fs_104)) ∧ fs_104[1]? = some (va_rf r_107) ∧ (∃ a_108 : Nat, r_107 = some a_108 ∧ (∃ (fs_109 : List Value) (r_112 : Option Nat), h_40 a_108 = some (.inr (1, fs_109)) ∧ fs_109[5]? = some (va_rf r_112) ∧ ((k + 2) + 1 ≤ 6 ∧ (n + 10) + 2 ≤ 100 ∧ ∀ a_113 : Nat, h_40 a_113 = none → ∀ h_115 : AH, h_115 = va_up h_40 a_113 (some (.inr (10, dfX9))) → (w_X9_init (fun (h_120 : AH) => (∃ a_121 : Nat, r_112 = some a_121 ∧ (∃ fs_139 : List Value, h_120 a_121 = some (.inr (2, fs_139)) ∧ (((k + 2) + 1) + 1 ≤ 6 ∧ ((n + 10) + 2) + 63 ≤ 100 ∧ (w_J2_add (fun (z_122 : Int32) (h_123 : AH) => (∃ (fs_124 : List Value) (r_127 : Option Nat), h_123 b0 = some (.inr (0, fs_124)) ∧ fs_124[1]? = some (va_rf r_127) ∧ (∃ a_128 : Nat, r_127 = some a_128 ∧ (∃ (fs_129 : List Value) (r_132 : Option Nat), h_123 a_128 = some (.inr (1, fs_129)) ∧ fs_129[5]? = some (va_rf r_132) ∧ (∃ a_133 : Nat, r_132 = some a_133 ∧ (∃ fs_135 : List Value, h_123 a_133 = some (.inr (2, fs_135)) ∧ (w_J2_size (fun (z_134 : Int32) => (post (z_134 - (nI 1)) h_123)) a_133 h_123))))))) a_121 (some a_113) h_120))))) a_113 r_39 x3 h_115)))))) ∧ (z_99 = (nI 60) → (∃ fs_143 : List Value, h_40 b0 = some (.inr (0, fs_143)) ∧ (w_X0_refuse (fun (z_141 : Int32) (h_142 : AH) => (post z_141 h_142)) b0 (-4) h_40))))) a_98 h_40))))))))) x4 h))) ∧ (z_34 = 0 → (w_X0_line_64 post b0 x1 x2 x3 x4 h k n)))) x4)
def w_X0_line_44 (post : (Int32) → (AH) → Prop) (b0 : Nat) (x1 : Int32) (x2 : Int32) (x3 : Int32) (x4 : Int64) (h : AH) (k : Nat) (n : Nat) : Prop :=
 ((¬ x1 = (nI 2) → (w_X0_line_56 post b0 x1 x2 x3 x4 h k n)) ∧ (x1 = (nI 2) → (w_X0_isTale (fun (z_153 : Int32) => ((z_153 = 0 → (w_X0_line_64 post b0 x1 x2 x3 x4 h k n)) ∧ (¬ z_153 = 0 → (w_X0_line_56 post b0 x1 x2 x3 x4 h k n)))) x3)))
def w_X0_line_24 (post : (Int32) → (AH) → Prop) (b0 : Nat) (x1 : Int32) (x2 : Int32) (x3 : Int32) (x4 : Int64) (h : AH) (k : Nat) (n : Nat) : Prop :=
 ((¬ x1 = (nI 1) → (w_X0_line_44 post b0 x1 x2 x3 x4 h k n)) ∧ (x1 = (nI 1) → (∃ fs_167 : List Value, h b0 = some (.inr (0, fs_167)) ∧ (w_X0_isBook (fun (z_162 : Int32) => ((¬ z_162 = 0 → (w_X0_line_44 post b0 x1 x2 x3 x4 h k n)) ∧ (z_162 = 0 → (w_X0_line_37 post b0 x1 x2 x3 x4 h k n)))) b0 x2 h))))
def w_X0_line (post : (Int32) → (AH) → Prop) (b0 : Nat) (x1 : Int32) (x2 : Int32) (x3 : Int32) (x4 : Int64) (h : AH) : Prop :=
 (w_X0_in (fun (z_169 : Int32) => ((z_169 = 0 → (w_X0_line_37 post b0 x1 x2 x3 x4 h 0 0)) ∧ (¬ z_169 = 0 → ((¬ x1 = 0 → (w_X0_line_24 post b0 x1 x2 x3 x4 h 0 0)) ∧ (x1 = 0 → (∃ fs_183 : List Value, h b0 = some (.inr (0, fs_183)) ∧ (w_X0_isSong (fun (z_178 : Int32) => ((z_178 = 0 → (w_X0_line_37 post b0 x1 x2 x3 x4 h 0 0)) ∧ (¬ z_178 = 0 → (w_X0_line_24 post b0 x1 x2 x3 x4 h 0 0)))) b0 x2 h))))))) ((x1).toInt64) (lN 0) (lN 2))
theorem b_X0_line_37 {post : (Int32) → (AH) → Prop}   {b0 : Nat} {x1 : Int32} {x2 : Int32} {x3 : Int32} {x4 : Int64}    (h : AH) (k : Nat) (n : Nat) (hw : w_X0_line_37 post b0 x1 x2 x3 x4 h k n) : VV l E X cX0_line RX0 "line" 8 r_X0_line (some .int) (vpi (fun (r : Int32) (h' : AH) => post r h')) h k n 37 [(0, va_rf (some b0)), (1, .int x1), (2, .int x2), (3, .int x3), (4, .long x4)] [] := by
  refine v_aload_n (q := 0) dX0_line_37 rfl rfl ?_
  refine v_bipush dX0_line_38 bp_m2 ?_
  obtain ⟨fs_3, e_4, hw⟩ := hw
  refine v_callV0 q396 q398 qs0 q104 q399 (ci := 0) rfl e_4 n_X0_refuse ⟨Nat.le_of_ble_eq_true rfl, Nat.le_of_ble_eq_true rfl⟩ [.int (-2)] [] (met_X0_refuse hw) rfl (Nat.zero_le _) rfl rfl dX0_line_40 rfl (v_ki (fun z_1 h_2 hv => ?_))
  clear hw
  have hw := hv
  clear hv
  exact v_iret dX0_line_43 rfl ⟨_, rfl, hw⟩
theorem b_X0_line_64 {post : (Int32) → (AH) → Prop}   {b0 : Nat} {x1 : Int32} {x2 : Int32} {x3 : Int32} {x4 : Int64}    (h : AH) (k : Nat) (n : Nat) (hw : w_X0_line_64 post b0 x1 x2 x3 x4 h k n) : VV l E X cX0_line RX0 "line" 8 r_X0_line (some .int) (vpi (fun (r : Int32) (h' : AH) => post r h')) h k n 64 [(0, va_rf (some b0)), (1, .int x1), (2, .int x2), (3, .int x3), (4, .long x4)] [] := by
  refine v_aload_n (q := 0) dX0_line_64 rfl rfl ?_
  refine v_bipush dX0_line_65 bp_m3 ?_
  obtain ⟨fs_7, e_8, hw⟩ := hw
  refine v_callV0 q396 q398 qs0 q104 q399 (ci := 0) rfl e_8 n_X0_refuse ⟨Nat.le_of_ble_eq_true rfl, Nat.le_of_ble_eq_true rfl⟩ [.int (-3)] [] (met_X0_refuse hw) rfl (Nat.zero_le _) rfl rfl dX0_line_67 rfl (v_ki (fun z_5 h_6 hv => ?_))
  clear hw
  have hw := hv
  clear hv
  exact v_iret dX0_line_70 rfl ⟨_, rfl, hw⟩
theorem b_X0_line_180 {post : (Int32) → (AH) → Prop}   {b0 : Nat} {x1 : Int32} {x2 : Int32} {x3 : Int32} {x4 : Int64}    (x6 : Option Nat) (s0 : Option Nat) (h : AH) (k : Nat) (n : Nat) (hw : w_X0_line_180 post b0 x1 x2 x3 x4 x6 s0 h k n) : VV l E X cX0_line RX0 "line" 8 r_X0_line (some .int) (vpi (fun (r : Int32) (h' : AH) => post r h')) h k n 180 [(0, va_rf (some b0)), (1, .int x1), (2, .int x2), (3, .int x3), (4, .long x4), (6, va_rf x6)] [va_rf s0] := by
  refine v_astore (lv1 := [(7, va_rf s0), (0, va_rf (some b0)), (1, .int x1), (2, .int x2), (3, .int x3), (4, .long x4), (6, va_rf x6)]) dX0_line_180 (Nat.le_of_ble_eq_true rfl) (by cases x6 <;> rfl) ?_
  refine v_aload (q := 0) dX0_line_182 rfl ?_
  obtain ⟨a_9, ea_9, hw⟩ := hw
  subst ea_9
  obtain ⟨fs_32, e_33, hw⟩ := hw
  refine v_callV0 q413 q414 q415 q108 q416 (ci := 2) rfl e_33 n_J2_size ⟨Nat.le_of_ble_eq_true rfl, Nat.le_of_ble_eq_true rfl⟩ [] [] (met_J2_size hw) rfl (Nat.zero_le _) rfl rfl dX0_line_184 rfl (v_ki (fun z_10 h1 hv => ?_))
  clear hw
  obtain ⟨e9, hw⟩ := hv
  refine v_heap e9 ?_
  clear e9
  refine v_bipush dX0_line_187 bp_12 ?_
  obtain ⟨hw_13, hw_14⟩ := hw
  refine v_icmp_ne (tgt := 199) dX0_line_189 (by decide) (fun c_11 => ?_) (fun c_12 => ?_)
  · have hw := hw_13 c_11
    refine v_aload_n (q := 1) dX0_line_199 rfl rfl ?_
    refine v_iconst dX0_line_200 ic_0 ?_
    obtain ⟨fs_15, e_16, e_17, hw⟩ := hw
    obtain ⟨h_18, eh_18⟩ : ∃ z9 : AH, z9 = va_up h b0 (some (.inr (0, fs_15.set 16 (.int (nI 0))))) := ⟨_, rfl⟩
    replace hw := hw h_18 eh_18
    refine v_put in_X0 (ci := 0) rfl 16 (Nat.le_of_ble_eq_true rfl) tyX0 tyX0_ok nmX0 q335 rfl rfl rfl rfl rfl dX0_line_201 e_16 e_17 ?_
    rw [← eh_18]
    refine v_aload (q := 0) dX0_line_204 rfl ?_
    refine v_aload (q := 6) dX0_line_206 rfl ?_
    obtain ⟨fs_26, e_27, hw⟩ := hw
    obtain ⟨e_24, e_25, hw⟩ := hw
    refine v_callV q445 q446 q447 q108 q448 (ci := 2) rfl e_27 n_J2_add ⟨Nat.le_of_ble_eq_true rfl, Nat.le_of_ble_eq_true rfl⟩ [va_rf x6] [] (met_J2_add hw) rfl (Nat.zero_le _) ⟨e_24, e_25⟩ dX0_line_208 rfl (v_ki (fun z_19 h_20 hv => ?_))
    clear hw
    have hw := hv
    clear hv
    refine v_pop dX0_line_211 rfl ?_
    refine v_aload (q := 0) dX0_line_212 rfl ?_
    obtain ⟨fs_22, e_23, hw⟩ := hw
    refine v_callV0 q413 q414 q415 q108 q416 (ci := 2) rfl e_23 n_J2_size ⟨Nat.le_of_ble_eq_true rfl, Nat.le_of_ble_eq_true rfl⟩ [] [] (met_J2_size hw) rfl (Nat.zero_le _) rfl rfl dX0_line_214 rfl (v_ki (fun z_21 h1 hv => ?_))
    clear hw
    obtain ⟨e9, hw⟩ := hv
    refine v_heap e9 ?_
    clear e9
    refine v_iconst dX0_line_217 ic_1 ?_
    refine v_isub dX0_line_218 ?_
    exact v_iret dX0_line_219 rfl ⟨_, rfl, hw⟩
  · have hw := hw_14 c_12
    refine v_aload_n (q := 1) dX0_line_192 rfl rfl ?_
    refine v_bipush dX0_line_193 bp_m4 ?_
    obtain ⟨fs_30, e_31, hw⟩ := hw
    refine v_callV0 q396 q398 qs0 q104 q399 (ci := 0) rfl e_31 n_X0_refuse ⟨Nat.le_of_ble_eq_true rfl, Nat.le_of_ble_eq_true rfl⟩ [.int (-4)] [] (met_X0_refuse hw) rfl (Nat.zero_le _) rfl rfl dX0_line_195 rfl (v_ki (fun z_28 h_29 hv => ?_))
    clear hw
    have hw := hv
    clear hv
    exact v_iret dX0_line_198 rfl ⟨_, rfl, hw⟩
theorem b_X0_line_56 {post : (Int32) → (AH) → Prop}   {b0 : Nat} {x1 : Int32} {x2 : Int32} {x3 : Int32} {x4 : Int64}    (h : AH) (k : Nat) (n : Nat) (hw : w_X0_line_56 post b0 x1 x2 x3 x4 h k n) : VV l E X cX0_line RX0 "line" 8 r_X0_line (some .int) (vpi (fun (r : Int32) (h' : AH) => post r h')) h k n 56 [(0, va_rf (some b0)), (1, .int x1), (2, .int x2), (3, .int x3), (4, .long x4)] [] := by
  refine v_lload (q := 4) dX0_line_56 rfl ?_
  refine v_callS0 q533 q534 q104 q535 n_X0_hasWords ⟨Nat.le_of_ble_eq_true rfl, Nat.le_of_ble_eq_true rfl⟩ [.long x4] [] (met_X0_hasWords hw) rfl (Nat.zero_le _) rfl rfl dX0_line_58 rfl (v_ki (fun z_34 h1 hv => ?_))
  clear hw
  obtain ⟨e9, hw⟩ := hv
  refine v_heap e9 ?_
  clear e9
  obtain ⟨hw_37, hw_38⟩ := hw
  refine v_if_ne (tgt := 71) dX0_line_61 (by decide) (fun c_35 => ?_) (fun c_36 => ?_)
  · have hw := hw_37 c_35
    refine v_lload (q := 4) dX0_line_71 rfl ?_
    obtain ⟨e_147, e_148, hw⟩ := hw
    refine v_callS q536 q537 q119 q538 n_X8_of ⟨Nat.le_of_ble_eq_true rfl, Nat.le_of_ble_eq_true rfl⟩ [.long x4] [] (met_X8_of hw) rfl (Nat.zero_le _) ⟨e_147, e_148⟩ dX0_line_73 rfl (v_kq (fun r_39 h_40 hv => ?_))
    clear hw
    have hw := hv
    clear hv
    refine v_astore (lv1 := [(6, va_rf r_39), (0, va_rf (some b0)), (1, .int x1), (2, .int x2), (3, .int x3), (4, .long x4)]) dX0_line_76 (Nat.le_of_ble_eq_true rfl) rfl ?_
    refine v_iload_n (q := 2) dX0_line_78 rfl rfl ?_
    refine v_iconst dX0_line_79 ic_2 ?_
    obtain ⟨hw_43, hw_44⟩ := hw
    refine v_icmp_ne (tgt := 139) dX0_line_80 (by decide) (fun c_41 => ?_) (fun c_42 => ?_)
    · have hw := hw_43 c_41
      refine v_iload_n (q := 2) dX0_line_139 rfl rfl ?_
      obtain ⟨hw_47, hw_48⟩ := hw
      refine v_if_ne (tgt := 163) dX0_line_140 (by decide) (fun c_45 => ?_) (fun c_46 => ?_)
      · have hw := hw_47 c_45
        refine v_aload_n (q := 1) dX0_line_163 rfl rfl ?_
        obtain ⟨fs_49, r_52, e_50, e_51, hw⟩ := hw
        refine v_get in_X0 (ci := 0) rfl 1 (Nat.le_of_ble_eq_true rfl) q319 rfl dX0_line_164 e_50 e_51 ?_
        obtain ⟨a_53, ea_53, hw⟩ := hw
        subst ea_53
        obtain ⟨fs_54, r_57, e_55, e_56, hw⟩ := hw
        refine v_getN in_X1 (ci := 1) rfl 4 (Nat.le_of_ble_eq_true rfl) q228 rfl dX0_line_167 e_55 e_56 ?_
        refine v_iload_n (q := 3) dX0_line_170 rfl rfl ?_
        obtain ⟨a_58, ea_58, hw⟩ := hw
        subst ea_58
        obtain ⟨fs_67, e_68, hw⟩ := hw
        refine v_callV0 q577 q578 q579 q108 q580 (ci := 2) rfl e_68 n_J2_get ⟨Nat.le_of_ble_eq_true rfl, Nat.le_of_ble_eq_true rfl⟩ [.int x2] [] (met_J2_get hw) rfl (Nat.zero_le _) rfl rfl dX0_line_171 rfl (v_kq (fun r_59 h1 hv => ?_))
        clear hw
        obtain ⟨e9, hw⟩ := hv
        refine v_heap e9 ?_
        clear e9
        obtain ⟨a_60, ea_60, hw⟩ := hw
        subst ea_60
        obtain ⟨fs_61, e_62, hw⟩ := hw
        refine v_cast (ci := 8) rfl q417 dX0_line_174 e_62 ?_
        obtain ⟨fs_63, r_66, e_64, e_65, hw⟩ := hw
        refine v_getN in_X7 (ci := 8) rfl 4 (Nat.le_of_ble_eq_true rfl) q433 rfl dX0_line_177 e_64 e_65 ?_
        refine v_sub [1, 2, 3, 4, 5, 0] rfl ?_
        exact b_X0_line_180 r_39 r_66 h_40 (k + 2) (n + 10) hw
      · have hw := hw_48 c_46
        refine v_aload_n (q := 1) dX0_line_143 rfl rfl ?_
        obtain ⟨fs_69, r_72, e_70, e_71, hw⟩ := hw
        refine v_get in_X0 (ci := 0) rfl 1 (Nat.le_of_ble_eq_true rfl) q319 rfl dX0_line_144 e_70 e_71 ?_
        obtain ⟨a_73, ea_73, hw⟩ := hw
        subst ea_73
        obtain ⟨fs_74, r_77, e_75, e_76, hw⟩ := hw
        refine v_getN in_X1 (ci := 1) rfl 3 (Nat.le_of_ble_eq_true rfl) q226 rfl dX0_line_147 e_75 e_76 ?_
        refine v_iload_n (q := 3) dX0_line_150 rfl rfl ?_
        obtain ⟨a_78, ea_78, hw⟩ := hw
        subst ea_78
        obtain ⟨fs_87, e_88, hw⟩ := hw
        refine v_callV0 q577 q578 q579 q108 q580 (ci := 2) rfl e_88 n_J2_get ⟨Nat.le_of_ble_eq_true rfl, Nat.le_of_ble_eq_true rfl⟩ [.int x2] [] (met_J2_get hw) rfl (Nat.zero_le _) rfl rfl dX0_line_151 rfl (v_kq (fun r_79 h1 hv => ?_))
        clear hw
        obtain ⟨e9, hw⟩ := hv
        refine v_heap e9 ?_
        clear e9
        obtain ⟨a_80, ea_80, hw⟩ := hw
        subst ea_80
        obtain ⟨fs_81, e_82, hw⟩ := hw
        refine v_cast (ci := 8) rfl q417 dX0_line_154 e_82 ?_
        obtain ⟨fs_83, r_86, e_84, e_85, hw⟩ := hw
        refine v_getN in_X7 (ci := 8) rfl 4 (Nat.le_of_ble_eq_true rfl) q433 rfl dX0_line_157 e_84 e_85 ?_
        refine v_goto (tgt := 180) dX0_line_160 (by decide) ?_
        refine v_sub [1, 2, 3, 4, 5, 0] rfl ?_
        exact b_X0_line_180 r_39 r_86 h_40 (k + 2) (n + 10) hw
    · have hw := hw_44 c_42
      refine v_aload_n (q := 1) dX0_line_83 rfl rfl ?_
      obtain ⟨fs_89, r_92, e_90, e_91, hw⟩ := hw
      refine v_get in_X0 (ci := 0) rfl 1 (Nat.le_of_ble_eq_true rfl) q319 rfl dX0_line_84 e_90 e_91 ?_
      obtain ⟨a_93, ea_93, hw⟩ := hw
      subst ea_93
      obtain ⟨fs_94, r_97, e_95, e_96, hw⟩ := hw
      refine v_getN in_X1 (ci := 1) rfl 5 (Nat.le_of_ble_eq_true rfl) q230 rfl dX0_line_87 e_95 e_96 ?_
      obtain ⟨a_98, ea_98, hw⟩ := hw
      subst ea_98
      obtain ⟨fs_145, e_146, hw⟩ := hw
      refine v_callV0 q413 q414 q415 q108 q416 (ci := 2) rfl e_146 n_J2_size ⟨Nat.le_of_ble_eq_true rfl, Nat.le_of_ble_eq_true rfl⟩ [] [] (met_J2_size hw) rfl (Nat.zero_le _) rfl rfl dX0_line_90 rfl (v_ki (fun z_99 h1 hv => ?_))
      clear hw
      obtain ⟨e9, hw⟩ := hv
      refine v_heap e9 ?_
      clear e9
      refine v_bipush dX0_line_93 bp_60 ?_
      obtain ⟨hw_102, hw_103⟩ := hw
      refine v_icmp_ne (tgt := 105) dX0_line_95 (by decide) (fun c_100 => ?_) (fun c_101 => ?_)
      · have hw := hw_102 c_100
        refine v_aload_n (q := 1) dX0_line_105 rfl rfl ?_
        obtain ⟨fs_104, r_107, e_105, e_106, hw⟩ := hw
        refine v_get in_X0 (ci := 0) rfl 1 (Nat.le_of_ble_eq_true rfl) q319 rfl dX0_line_106 e_105 e_106 ?_
        obtain ⟨a_108, ea_108, hw⟩ := hw
        subst ea_108
        obtain ⟨fs_109, r_112, e_110, e_111, hw⟩ := hw
        refine v_getN in_X1 (ci := 1) rfl 5 (Nat.le_of_ble_eq_true rfl) q230 rfl dX0_line_109 e_110 e_111 ?_
        obtain ⟨e_116, e_117, hw⟩ := hw
        refine v_new in_X9 (ci := 10) rfl tyX9 tyX9_ok q562 q563 q120 dfX9_ok e_116 e_117 dX0_line_112 (fun a_113 e_114 => ?_)
        obtain ⟨h_115, eh_115⟩ : ∃ z9 : AH, z9 = va_up h_40 a_113 (some (.inr (10, dfX9))) := ⟨_, rfl⟩
        replace hw := hw a_113 e_114 h_115 eh_115
        rw [← eh_115]
        refine v_dup dX0_line_115 (v_rf1 _) ?_
        refine v_aload (q := 0) dX0_line_116 rfl ?_
        refine v_iload_n (q := 4) dX0_line_118 rfl rfl ?_
        refine v_callI0 q564 q565 q120 q566 rfl n_X9_init ⟨Nat.le_of_ble_eq_true rfl, Nat.le_of_ble_eq_true rfl⟩ [va_rf r_39, .int x3] [va_rf (some a_113), va_rf r_112] (met_X9_init hw) rfl (by simp only [List.map_cons, List.map_nil, List.sum_cons, List.sum_nil, v_rf1, v_cI, v_cJ]; decide) rfl rfl dX0_line_119 rfl (v_kv (fun h_120 hv => ?_))
        clear hw
        have hw := hv
        clear hv
        obtain ⟨a_121, ea_121, hw⟩ := hw
        subst ea_121
        obtain ⟨fs_139, e_140, hw⟩ := hw
        obtain ⟨e_137, e_138, hw⟩ := hw
        refine v_callV q445 q446 q447 q108 q448 (ci := 2) rfl e_140 n_J2_add ⟨Nat.le_of_ble_eq_true rfl, Nat.le_of_ble_eq_true rfl⟩ [va_rf (some a_113)] [] (met_J2_add hw) rfl (Nat.zero_le _) ⟨e_137, e_138⟩ dX0_line_122 rfl (v_ki (fun z_122 h_123 hv => ?_))
        clear hw
        have hw := hv
        clear hv
        refine v_pop dX0_line_125 rfl ?_
        refine v_aload_n (q := 1) dX0_line_126 rfl rfl ?_
        obtain ⟨fs_124, r_127, e_125, e_126, hw⟩ := hw
        refine v_get in_X0 (ci := 0) rfl 1 (Nat.le_of_ble_eq_true rfl) q319 rfl dX0_line_127 e_125 e_126 ?_
        obtain ⟨a_128, ea_128, hw⟩ := hw
        subst ea_128
        obtain ⟨fs_129, r_132, e_130, e_131, hw⟩ := hw
        refine v_getN in_X1 (ci := 1) rfl 5 (Nat.le_of_ble_eq_true rfl) q230 rfl dX0_line_130 e_130 e_131 ?_
        obtain ⟨a_133, ea_133, hw⟩ := hw
        subst ea_133
        obtain ⟨fs_135, e_136, hw⟩ := hw
        refine v_callV0 q413 q414 q415 q108 q416 (ci := 2) rfl e_136 n_J2_size ⟨Nat.le_of_ble_eq_true rfl, Nat.le_of_ble_eq_true rfl⟩ [] [] (met_J2_size hw) rfl (Nat.zero_le _) rfl rfl dX0_line_133 rfl (v_ki (fun z_134 h1 hv => ?_))
        clear hw
        obtain ⟨e9, hw⟩ := hv
        refine v_heap e9 ?_
        clear e9
        refine v_iconst dX0_line_136 ic_1 ?_
        refine v_isub dX0_line_137 ?_
        exact v_iret dX0_line_138 rfl ⟨_, rfl, hw⟩
      · have hw := hw_103 c_101
        refine v_aload_n (q := 1) dX0_line_98 rfl rfl ?_
        refine v_bipush dX0_line_99 bp_m4 ?_
        obtain ⟨fs_143, e_144, hw⟩ := hw
        refine v_callV0 q396 q398 qs0 q104 q399 (ci := 0) rfl e_144 n_X0_refuse ⟨Nat.le_of_ble_eq_true rfl, Nat.le_of_ble_eq_true rfl⟩ [.int (-4)] [] (met_X0_refuse hw) rfl (Nat.zero_le _) rfl rfl dX0_line_101 rfl (v_ki (fun z_141 h_142 hv => ?_))
        clear hw
        have hw := hv
        clear hv
        exact v_iret dX0_line_104 rfl ⟨_, rfl, hw⟩
  · have hw := hw_38 c_36
    refine v_sub [0, 1, 2, 3, 4] rfl ?_
    exact b_X0_line_64 h k n hw
theorem b_X0_line_44 {post : (Int32) → (AH) → Prop}   {b0 : Nat} {x1 : Int32} {x2 : Int32} {x3 : Int32} {x4 : Int64}    (h : AH) (k : Nat) (n : Nat) (hw : w_X0_line_44 post b0 x1 x2 x3 x4 h k n) : VV l E X cX0_line RX0 "line" 8 r_X0_line (some .int) (vpi (fun (r : Int32) (h' : AH) => post r h')) h k n 44 [(0, va_rf (some b0)), (1, .int x1), (2, .int x2), (3, .int x3), (4, .long x4)] [] := by
  refine v_iload_n (q := 1) dX0_line_44 rfl rfl ?_
  refine v_iconst dX0_line_45 ic_2 ?_
  obtain ⟨hw_151, hw_152⟩ := hw
  refine v_icmp_ne (tgt := 56) dX0_line_46 (by decide) (fun c_149 => ?_) (fun c_150 => ?_)
  · have hw := hw_151 c_149
    refine v_sub [0, 1, 2, 3, 4] rfl ?_
    exact b_X0_line_56 h k n hw
  · have hw := hw_152 c_150
    refine v_iload_n (q := 3) dX0_line_49 rfl rfl ?_
    refine v_callS0 q400 q401 q104 q402 n_X0_isTale ⟨Nat.le_of_ble_eq_true rfl, Nat.le_of_ble_eq_true rfl⟩ [.int x3] [] (met_X0_isTale hw) rfl (Nat.zero_le _) rfl rfl dX0_line_50 rfl (v_ki (fun z_153 h1 hv => ?_))
    clear hw
    obtain ⟨e9, hw⟩ := hv
    refine v_heap e9 ?_
    clear e9
    obtain ⟨hw_156, hw_157⟩ := hw
    refine v_if_eq (tgt := 64) dX0_line_53 (by decide) (fun c_154 => ?_) (fun c_155 => ?_)
    · have hw := hw_156 c_154
      refine v_sub [0, 1, 2, 3, 4] rfl ?_
      exact b_X0_line_64 h k n hw
    · have hw := hw_157 c_155
      refine v_sub [0, 1, 2, 3, 4] rfl ?_
      exact b_X0_line_56 h k n hw
theorem b_X0_line_24 {post : (Int32) → (AH) → Prop}   {b0 : Nat} {x1 : Int32} {x2 : Int32} {x3 : Int32} {x4 : Int64}    (h : AH) (k : Nat) (n : Nat) (hw : w_X0_line_24 post b0 x1 x2 x3 x4 h k n) : VV l E X cX0_line RX0 "line" 8 r_X0_line (some .int) (vpi (fun (r : Int32) (h' : AH) => post r h')) h k n 24 [(0, va_rf (some b0)), (1, .int x1), (2, .int x2), (3, .int x3), (4, .long x4)] [] := by
  refine v_iload_n (q := 1) dX0_line_24 rfl rfl ?_
  refine v_iconst dX0_line_25 ic_1 ?_
  obtain ⟨hw_160, hw_161⟩ := hw
  refine v_icmp_ne (tgt := 44) dX0_line_26 (by decide) (fun c_158 => ?_) (fun c_159 => ?_)
  · have hw := hw_160 c_158
    refine v_sub [0, 1, 2, 3, 4] rfl ?_
    exact b_X0_line_44 h k n hw
  · have hw := hw_161 c_159
    refine v_aload_n (q := 0) dX0_line_29 rfl rfl ?_
    refine v_iload_n (q := 2) dX0_line_30 rfl rfl ?_
    obtain ⟨fs_167, e_168, hw⟩ := hw
    refine v_callV0 q529 q531 qs5 q104 q532 (ci := 0) rfl e_168 n_X0_isBook ⟨Nat.le_of_ble_eq_true rfl, Nat.le_of_ble_eq_true rfl⟩ [.int x2] [] (met_X0_isBook hw) rfl (Nat.zero_le _) rfl rfl dX0_line_31 rfl (v_ki (fun z_162 h1 hv => ?_))
    clear hw
    obtain ⟨e9, hw⟩ := hv
    refine v_heap e9 ?_
    clear e9
    obtain ⟨hw_165, hw_166⟩ := hw
    refine v_if_ne (tgt := 44) dX0_line_34 (by decide) (fun c_163 => ?_) (fun c_164 => ?_)
    · have hw := hw_165 c_163
      refine v_sub [0, 1, 2, 3, 4] rfl ?_
      exact b_X0_line_44 h k n hw
    · have hw := hw_166 c_164
      refine v_sub [0, 1, 2, 3, 4] rfl ?_
      exact b_X0_line_37 h k n hw
theorem e_X0_line {post : (Int32) → (AH) → Prop}   {b0 : Nat} {x1 : Int32} {x2 : Int32} {x3 : Int32} {x4 : Int64} {h : AH}  (hw : w_X0_line post  b0 x1 x2 x3 x4 h) : VV l E X cX0_line RX0 "line" 8 r_X0_line (some .int) (vpi (fun (r : Int32) (h' : AH) => post r h')) h 0 0 0 [(0, va_rf (some b0)), (1, .int x1), (2, .int x2), (3, .int x3), (4, .long x4)] [] := by
  refine v_iload_n (q := 1) dX0_line_0 rfl rfl ?_
  refine v_i2l dX0_line_1 ?_
  refine v_lconst (v := lN 0) dX0_line_2 rfl ?_
  refine v_ldc2 (v := (lN 2)) dX0_line_3 q524 ?_
  refine v_callS0 q393 q394 q104 q395 n_X0_in ⟨Nat.le_of_ble_eq_true rfl, Nat.le_of_ble_eq_true rfl⟩ [.long ((x1).toInt64), .long (lN 0), .long (lN 2)] [] (met_X0_in hw) rfl (Nat.zero_le _) rfl rfl dX0_line_6 rfl (v_ki (fun z_169 h1 hv => ?_))
  clear hw
  obtain ⟨e9, hw⟩ := hv
  refine v_heap e9 ?_
  clear e9
  obtain ⟨hw_172, hw_173⟩ := hw
  refine v_if_eq (tgt := 37) dX0_line_9 (by decide) (fun c_170 => ?_) (fun c_171 => ?_)
  · have hw := hw_172 c_170
    refine v_sub [0, 1, 2, 3, 4] rfl ?_
    exact b_X0_line_37 h 0 0 hw
  · have hw := hw_173 c_171
    refine v_iload_n (q := 1) dX0_line_12 rfl rfl ?_
    obtain ⟨hw_176, hw_177⟩ := hw
    refine v_if_ne (tgt := 24) dX0_line_13 (by decide) (fun c_174 => ?_) (fun c_175 => ?_)
    · have hw := hw_176 c_174
      refine v_sub [0, 1, 2, 3, 4] rfl ?_
      exact b_X0_line_24 h 0 0 hw
    · have hw := hw_177 c_175
      refine v_aload_n (q := 0) dX0_line_16 rfl rfl ?_
      refine v_iload_n (q := 2) dX0_line_17 rfl rfl ?_
      obtain ⟨fs_183, e_184, hw⟩ := hw
      refine v_callV0 q525 q527 qs4 q104 q528 (ci := 0) rfl e_184 n_X0_isSong ⟨Nat.le_of_ble_eq_true rfl, Nat.le_of_ble_eq_true rfl⟩ [.int x2] [] (met_X0_isSong hw) rfl (Nat.zero_le _) rfl rfl dX0_line_18 rfl (v_ki (fun z_178 h1 hv => ?_))
      clear hw
      obtain ⟨e9, hw⟩ := hv
      refine v_heap e9 ?_
      clear e9
      obtain ⟨hw_181, hw_182⟩ := hw
      refine v_if_eq (tgt := 37) dX0_line_21 (by decide) (fun c_179 => ?_) (fun c_180 => ?_)
      · have hw := hw_181 c_179
        refine v_sub [0, 1, 2, 3, 4] rfl ?_
        exact b_X0_line_37 h 0 0 hw
      · have hw := hw_182 c_180
        refine v_sub [0, 1, 2, 3, 4] rfl ?_
        exact b_X0_line_24 h 0 0 hw
theorem met_X0_line {post : (Int32) → (AH) → Prop}   {b0 : Nat} {x1 : Int32} {x2 : Int32} {x3 : Int32} {x4 : Int64} {h : AH}  (hw : w_X0_line post  b0 x1 x2 x3 x4 h) : Mt l E yX0_line (ws_ yX0_line cX0_line 8 (some .int)) r_X0_line [va_rf (some b0), .int x1, .int x2, .int x3, .long x4] h (vpi (fun (r : Int32) (h' : AH) => post r h')) := v_entry (by decide +kernel) (Nat.le_of_ble_eq_true rfl) rfl (fun _ => e_X0_line hw)
/-! X0_print -/
abbrev r_X0_print : Room := { frames := 2, cells := 0, slots := 0, locals := 45 }
theorem n_X0_print : vdn yX0_print 1 := ⟨by decide +kernel, by decide +kernel, by decide +kernel⟩
def w_X0_print (post : (Int32) → (AH) → Prop) (b0 : Nat) (x1 : Int32) (h : AH) : Prop :=
 (w_X0_isDay (fun (z_1 : Int32) => ((¬ z_1 = 0 → (∃ (fs_6 : List Value) (r_9 : Option Nat), h b0 = some (.inr (0, fs_6)) ∧ fs_6[1]? = some (va_rf r_9) ∧ (∃ a_10 : Nat, r_9 = some a_10 ∧ (∃ (fs_11 : List Value) (z_14 : Int32), h a_10 = some (.inr (1, fs_11)) ∧ fs_11[0]? = some (.int z_14) ∧ (∃ (fs_15 : List Value) (r_18 : Option Nat), h b0 = some (.inr (0, fs_15)) ∧ fs_15[1]? = some (va_rf r_18) ∧ (∃ a_19 : Nat, r_18 = some a_19 ∧ (∃ fs_20 : List Value, h a_19 = some (.inr (1, fs_20)) ∧ 0 < fs_20.length ∧ ∀ h_23 : AH, h_23 = va_up h a_19 (some (.inr (1, fs_20.set 0 (.int x1)))) → (∃ fs_24 : List Value, h_23 b0 = some (.inr (0, fs_24)) ∧ 16 < fs_24.length ∧ ∀ h_27 : AH, h_27 = va_up h_23 b0 (some (.inr (0, fs_24.set 16 (.int (nI 0))))) → (post z_14 h_27))))))))) ∧ (z_1 = 0 → (∃ fs_30 : List Value, h b0 = some (.inr (0, fs_30)) ∧ (w_X0_refuse (fun (z_28 : Int32) (h_29 : AH) => (post z_28 h_29)) b0 (-3) h))))) x1)
theorem e_X0_print {post : (Int32) → (AH) → Prop}   {b0 : Nat} {x1 : Int32} {h : AH}  (hw : w_X0_print post  b0 x1 h) : VV l E X cX0_print RX0 "print" 3 r_X0_print (some .int) (vpi (fun (r : Int32) (h' : AH) => post r h')) h 0 0 0 [(0, va_rf (some b0)), (1, .int x1)] [] := by
  refine v_iload_n (q := 1) dX0_print_0 rfl rfl ?_
  refine v_callS q408 q409 q104 q410 n_X0_isDay ⟨Nat.le_of_ble_eq_true rfl, Nat.le_of_ble_eq_true rfl⟩ [.int x1] [] (met_X0_isDay hw) rfl (Nat.zero_le _) ⟨Nat.le_refl _, Nat.le_refl _⟩ dX0_print_1 rfl (v_ki (fun z_1 h1 hv => ?_))
  clear hw
  obtain ⟨e9, hw⟩ := hv
  refine v_heap e9 ?_
  clear e9
  obtain ⟨hw_4, hw_5⟩ := hw
  refine v_if_ne (tgt := 14) dX0_print_4 (by decide) (fun c_2 => ?_) (fun c_3 => ?_)
  · have hw := hw_4 c_2
    refine v_aload_n (q := 0) dX0_print_14 rfl rfl ?_
    obtain ⟨fs_6, r_9, e_7, e_8, hw⟩ := hw
    refine v_get in_X0 (ci := 0) rfl 1 (Nat.le_of_ble_eq_true rfl) q319 rfl dX0_print_15 e_7 e_8 ?_
    obtain ⟨a_10, ea_10, hw⟩ := hw
    subst ea_10
    obtain ⟨fs_11, z_14, e_12, e_13, hw⟩ := hw
    refine v_getN in_X1 (ci := 1) rfl 0 (Nat.le_of_ble_eq_true rfl) q220 rfl dX0_print_18 e_12 e_13 ?_
    refine v_istore_n (lv1 := [(2, .int z_14), (0, va_rf (some b0)), (1, .int x1)]) dX0_print_21 rfl (Nat.le_of_ble_eq_true rfl) rfl ?_
    refine v_aload_n (q := 1) dX0_print_22 rfl rfl ?_
    obtain ⟨fs_15, r_18, e_16, e_17, hw⟩ := hw
    refine v_get in_X0 (ci := 0) rfl 1 (Nat.le_of_ble_eq_true rfl) q319 rfl dX0_print_23 e_16 e_17 ?_
    refine v_iload_n (q := 2) dX0_print_26 rfl rfl ?_
    obtain ⟨a_19, ea_19, hw⟩ := hw
    subst ea_19
    obtain ⟨fs_20, e_21, e_22, hw⟩ := hw
    obtain ⟨h_23, eh_23⟩ : ∃ z9 : AH, z9 = va_up h a_19 (some (.inr (1, fs_20.set 0 (.int x1)))) := ⟨_, rfl⟩
    replace hw := hw h_23 eh_23
    refine v_putN in_X1 (ci := 1) rfl 0 (Nat.le_of_ble_eq_true rfl) tyX1 tyX1_ok nmX1 q220 rfl rfl rfl rfl rfl dX0_print_27 e_21 e_22 ?_
    rw [← eh_23]
    refine v_aload_n (q := 1) dX0_print_30 rfl rfl ?_
    refine v_iconst dX0_print_31 ic_0 ?_
    obtain ⟨fs_24, e_25, e_26, hw⟩ := hw
    obtain ⟨h_27, eh_27⟩ : ∃ z9 : AH, z9 = va_up h_23 b0 (some (.inr (0, fs_24.set 16 (.int (nI 0))))) := ⟨_, rfl⟩
    replace hw := hw h_27 eh_27
    refine v_put in_X0 (ci := 0) rfl 16 (Nat.le_of_ble_eq_true rfl) tyX0 tyX0_ok nmX0 q335 rfl rfl rfl rfl rfl dX0_print_32 e_25 e_26 ?_
    rw [← eh_27]
    refine v_iload_n (q := 0) dX0_print_35 rfl rfl ?_
    exact v_iret dX0_print_36 rfl ⟨_, rfl, hw⟩
  · have hw := hw_5 c_3
    refine v_aload_n (q := 0) dX0_print_7 rfl rfl ?_
    refine v_bipush dX0_print_8 bp_m3 ?_
    obtain ⟨fs_30, e_31, hw⟩ := hw
    refine v_callV q396 q398 qs0 q104 q399 (ci := 0) rfl e_31 n_X0_refuse ⟨Nat.le_of_ble_eq_true rfl, Nat.le_of_ble_eq_true rfl⟩ [.int (-3)] [] (met_X0_refuse hw) rfl (Nat.zero_le _) ⟨Nat.le_refl _, Nat.le_refl _⟩ dX0_print_10 rfl (v_ki (fun z_28 h_29 hv => ?_))
    clear hw
    have hw := hv
    clear hv
    exact v_iret dX0_print_13 rfl ⟨_, rfl, hw⟩
theorem met_X0_print {post : (Int32) → (AH) → Prop}   {b0 : Nat} {x1 : Int32} {h : AH}  (hw : w_X0_print post  b0 x1 h) : Mt l E yX0_print (ws_ yX0_print cX0_print 3 (some .int)) r_X0_print [va_rf (some b0), .int x1] h (vpi (fun (r : Int32) (h' : AH) => post r h')) := v_entry (by decide +kernel) (Nat.le_of_ble_eq_true rfl) rfl (fun _ => e_X0_print hw)
/-! X0_bounds -/
abbrev r_X0_bounds : Room := { frames := 1, cells := 0, slots := 0, locals := 25 }
theorem n_X0_bounds : vdn yX0_bounds 2 := ⟨by decide +kernel, by decide +kernel, by decide +kernel⟩
def w_X0_bounds_23 (post : (Int32) → (AH) → Prop) (b0 : Nat) (x1 : Int32) (x2 : Int32) (h : AH) : Prop :=
 (∃ fs_3 : List Value, h b0 = some (.inr (0, fs_3)) ∧ (w_X0_refuse (fun (z_1 : Int32) (h_2 : AH) => (post z_1 h_2)) b0 (-3) h))
def w_X0_bounds (post : (Int32) → (AH) → Prop) (b0 : Nat) (x1 : Int32) (x2 : Int32) (h : AH) : Prop :=
 (w_X0_in (fun (z_5 : Int32) => ((z_5 = 0 → (w_X0_bounds_23 post b0 x1 x2 h)) ∧ (¬ z_5 = 0 → (w_X0_in (fun (z_10 : Int32) => ((¬ z_10 = 0 → (∃ (fs_15 : List Value) (r_18 : Option Nat), h b0 = some (.inr (0, fs_15)) ∧ fs_15[1]? = some (va_rf r_18) ∧ (∃ a_19 : Nat, r_18 = some a_19 ∧ (∃ fs_20 : List Value, h a_19 = some (.inr (1, fs_20)) ∧ 1 < fs_20.length ∧ ∀ h_23 : AH, h_23 = va_up h a_19 (some (.inr (1, fs_20.set 1 (.int x1)))) → (∃ (fs_24 : List Value) (r_27 : Option Nat), h_23 b0 = some (.inr (0, fs_24)) ∧ fs_24[1]? = some (va_rf r_27) ∧ (∃ a_28 : Nat, r_27 = some a_28 ∧ (∃ fs_29 : List Value, h_23 a_28 = some (.inr (1, fs_29)) ∧ 2 < fs_29.length ∧ ∀ h_32 : AH, h_32 = va_up h_23 a_28 (some (.inr (1, fs_29.set 2 (.int x2)))) → (post (nI 0) h_32)))))))) ∧ (z_10 = 0 → (w_X0_bounds_23 post b0 x1 x2 h)))) ((x2).toInt64) (lN 1) ((x1).toInt64))))) ((x1).toInt64) (lN 1) (lN 100))
theorem b_X0_bounds_23 {post : (Int32) → (AH) → Prop}   {b0 : Nat} {x1 : Int32} {x2 : Int32}    (h : AH) (hw : w_X0_bounds_23 post b0 x1 x2 h) : VV l E X cX0_bounds RX0 "bounds" 3 r_X0_bounds (some .int) (vpi (fun (r : Int32) (h' : AH) => post r h')) h 0 0 23 [(0, va_rf (some b0)), (1, .int x1), (2, .int x2)] [] := by
  refine v_aload_n (q := 0) dX0_bounds_23 rfl rfl ?_
  refine v_bipush dX0_bounds_24 bp_m3 ?_
  obtain ⟨fs_3, e_4, hw⟩ := hw
  refine v_callV q396 q398 qs0 q104 q399 (ci := 0) rfl e_4 n_X0_refuse ⟨Nat.le_of_ble_eq_true rfl, Nat.le_of_ble_eq_true rfl⟩ [.int (-3)] [] (met_X0_refuse hw) rfl (Nat.zero_le _) ⟨Nat.le_refl _, Nat.le_refl _⟩ dX0_bounds_26 rfl (v_ki (fun z_1 h_2 hv => ?_))
  clear hw
  have hw := hv
  clear hv
  exact v_iret dX0_bounds_29 rfl ⟨_, rfl, hw⟩
theorem e_X0_bounds {post : (Int32) → (AH) → Prop}   {b0 : Nat} {x1 : Int32} {x2 : Int32} {h : AH}  (hw : w_X0_bounds post  b0 x1 x2 h) : VV l E X cX0_bounds RX0 "bounds" 3 r_X0_bounds (some .int) (vpi (fun (r : Int32) (h' : AH) => post r h')) h 0 0 0 [(0, va_rf (some b0)), (1, .int x1), (2, .int x2)] [] := by
  refine v_iload_n (q := 1) dX0_bounds_0 rfl rfl ?_
  refine v_i2l dX0_bounds_1 ?_
  refine v_lconst (v := lN 1) dX0_bounds_2 rfl ?_
  refine v_ldc2 (v := (lN 100)) dX0_bounds_3 q599 ?_
  refine v_callS q393 q394 q104 q395 n_X0_in ⟨Nat.le_of_ble_eq_true rfl, Nat.le_of_ble_eq_true rfl⟩ [.long ((x1).toInt64), .long (lN 1), .long (lN 100)] [] (met_X0_in hw) rfl (Nat.zero_le _) ⟨Nat.le_refl _, Nat.le_refl _⟩ dX0_bounds_6 rfl (v_ki (fun z_5 h1 hv => ?_))
  clear hw
  obtain ⟨e9, hw⟩ := hv
  refine v_heap e9 ?_
  clear e9
  obtain ⟨hw_8, hw_9⟩ := hw
  refine v_if_eq (tgt := 23) dX0_bounds_9 (by decide) (fun c_6 => ?_) (fun c_7 => ?_)
  · have hw := hw_8 c_6
    refine v_sub [0, 1, 2] rfl ?_
    exact b_X0_bounds_23 h hw
  · have hw := hw_9 c_7
    refine v_iload_n (q := 2) dX0_bounds_12 rfl rfl ?_
    refine v_i2l dX0_bounds_13 ?_
    refine v_lconst (v := lN 1) dX0_bounds_14 rfl ?_
    refine v_iload_n (q := 1) dX0_bounds_15 rfl rfl ?_
    refine v_i2l dX0_bounds_16 ?_
    refine v_callS q393 q394 q104 q395 n_X0_in ⟨Nat.le_of_ble_eq_true rfl, Nat.le_of_ble_eq_true rfl⟩ [.long ((x2).toInt64), .long (lN 1), .long ((x1).toInt64)] [] (met_X0_in hw) rfl (Nat.zero_le _) ⟨Nat.le_refl _, Nat.le_refl _⟩ dX0_bounds_17 rfl (v_ki (fun z_10 h1 hv => ?_))
    clear hw
    obtain ⟨e9, hw⟩ := hv
    refine v_heap e9 ?_
    clear e9
    obtain ⟨hw_13, hw_14⟩ := hw
    refine v_if_ne (tgt := 30) dX0_bounds_20 (by decide) (fun c_11 => ?_) (fun c_12 => ?_)
    · have hw := hw_13 c_11
      refine v_aload_n (q := 0) dX0_bounds_30 rfl rfl ?_
      obtain ⟨fs_15, r_18, e_16, e_17, hw⟩ := hw
      refine v_get in_X0 (ci := 0) rfl 1 (Nat.le_of_ble_eq_true rfl) q319 rfl dX0_bounds_31 e_16 e_17 ?_
      refine v_iload_n (q := 1) dX0_bounds_34 rfl rfl ?_
      obtain ⟨a_19, ea_19, hw⟩ := hw
      subst ea_19
      obtain ⟨fs_20, e_21, e_22, hw⟩ := hw
      obtain ⟨h_23, eh_23⟩ : ∃ z9 : AH, z9 = va_up h a_19 (some (.inr (1, fs_20.set 1 (.int x1)))) := ⟨_, rfl⟩
      replace hw := hw h_23 eh_23
      refine v_putN in_X1 (ci := 1) rfl 1 (Nat.le_of_ble_eq_true rfl) tyX1 tyX1_ok nmX1 q222 rfl rfl rfl rfl rfl dX0_bounds_35 e_21 e_22 ?_
      rw [← eh_23]
      refine v_aload_n (q := 0) dX0_bounds_38 rfl rfl ?_
      obtain ⟨fs_24, r_27, e_25, e_26, hw⟩ := hw
      refine v_get in_X0 (ci := 0) rfl 1 (Nat.le_of_ble_eq_true rfl) q319 rfl dX0_bounds_39 e_25 e_26 ?_
      refine v_iload_n (q := 2) dX0_bounds_42 rfl rfl ?_
      obtain ⟨a_28, ea_28, hw⟩ := hw
      subst ea_28
      obtain ⟨fs_29, e_30, e_31, hw⟩ := hw
      obtain ⟨h_32, eh_32⟩ : ∃ z9 : AH, z9 = va_up h_23 a_28 (some (.inr (1, fs_29.set 2 (.int x2)))) := ⟨_, rfl⟩
      replace hw := hw h_32 eh_32
      refine v_putN in_X1 (ci := 1) rfl 2 (Nat.le_of_ble_eq_true rfl) tyX1 tyX1_ok nmX1 q224 rfl rfl rfl rfl rfl dX0_bounds_43 e_30 e_31 ?_
      rw [← eh_32]
      refine v_iconst dX0_bounds_46 ic_0 ?_
      exact v_iret dX0_bounds_47 rfl ⟨_, rfl, hw⟩
    · have hw := hw_14 c_12
      refine v_sub [0, 1, 2] rfl ?_
      exact b_X0_bounds_23 h hw
theorem met_X0_bounds {post : (Int32) → (AH) → Prop}   {b0 : Nat} {x1 : Int32} {x2 : Int32} {h : AH}  (hw : w_X0_bounds post  b0 x1 x2 h) : Mt l E yX0_bounds (ws_ yX0_bounds cX0_bounds 3 (some .int)) r_X0_bounds [va_rf (some b0), .int x1, .int x2] h (vpi (fun (r : Int32) (h' : AH) => post r h')) := v_entry (by decide +kernel) (Nat.le_of_ble_eq_true rfl) rfl (fun _ => e_X0_bounds hw)
/-! X0_isPrinted -/
abbrev r_X0_isPrinted : Room := { frames := 1, cells := 0, slots := 0, locals := 25 }
theorem n_X0_isPrinted : vdn yX0_isPrinted 1 := ⟨by decide +kernel, by decide +kernel, by decide +kernel⟩
def w_X0_isPrinted (post : (Int32) → Prop) (b0 : Nat) (x1 : Int32) (h : AH) : Prop :=
 (∃ (fs_1 : List Value) (r_4 : Option Nat), h b0 = some (.inr (0, fs_1)) ∧ fs_1[1]? = some (va_rf r_4) ∧ (∃ a_5 : Nat, r_4 = some a_5 ∧ (∃ (fs_6 : List Value) (r_9 : Option Nat), h a_5 = some (.inr (1, fs_6)) ∧ fs_6[5]? = some (va_rf r_9) ∧ (∃ a_10 : Nat, r_9 = some a_10 ∧ (∃ fs_14 : List Value, h a_10 = some (.inr (2, fs_14)) ∧ (w_J2_size (fun (z_11 : Int32) => (w_X0_in (fun (z_12 : Int32) => ((z_12 = nI 0 ∨ z_12 = nI 1) ∧ post z_12)) ((x1).toInt64) (lN 0) (((z_11 - (nI 1))).toInt64))) a_10 h))))))
theorem e_X0_isPrinted {post : (Int32) → Prop}   {b0 : Nat} {x1 : Int32} {h : AH}  (hw : w_X0_isPrinted post  b0 x1 h) : VV l E X cX0_isPrinted RX0 "isPrinted" 2 r_X0_isPrinted (some .boolean) (vpi (fun (r : Int32) (h' : AH) => h' = h ∧ post r)) h 0 0 0 [(0, va_rf (some b0)), (1, .int x1)] [] := by
  refine v_iload_n (q := 1) dX0_isPrinted_0 rfl rfl ?_
  refine v_i2l dX0_isPrinted_1 ?_
  refine v_lconst (v := lN 0) dX0_isPrinted_2 rfl ?_
  refine v_aload_n (q := 0) dX0_isPrinted_3 rfl rfl ?_
  obtain ⟨fs_1, r_4, e_2, e_3, hw⟩ := hw
  refine v_get in_X0 (ci := 0) rfl 1 (Nat.le_of_ble_eq_true rfl) q319 rfl dX0_isPrinted_4 e_2 e_3 ?_
  obtain ⟨a_5, ea_5, hw⟩ := hw
  subst ea_5
  obtain ⟨fs_6, r_9, e_7, e_8, hw⟩ := hw
  refine v_getN in_X1 (ci := 1) rfl 5 (Nat.le_of_ble_eq_true rfl) q230 rfl dX0_isPrinted_7 e_7 e_8 ?_
  obtain ⟨a_10, ea_10, hw⟩ := hw
  subst ea_10
  obtain ⟨fs_14, e_15, hw⟩ := hw
  refine v_callV q413 q414 q415 q108 q416 (ci := 2) rfl e_15 n_J2_size ⟨Nat.le_of_ble_eq_true rfl, Nat.le_of_ble_eq_true rfl⟩ [] [.long (lN 0), .long ((x1).toInt64)] (met_J2_size hw) rfl (Nat.le_of_ble_eq_true rfl) ⟨Nat.le_refl _, Nat.le_refl _⟩ dX0_isPrinted_10 rfl (v_ki (fun z_11 h1 hv => ?_))
  clear hw
  obtain ⟨e9, hw⟩ := hv
  refine v_heap e9 ?_
  clear e9
  refine v_iconst dX0_isPrinted_13 ic_1 ?_
  refine v_isub dX0_isPrinted_14 ?_
  refine v_i2l dX0_isPrinted_15 ?_
  refine v_callS q393 q394 q104 q395 n_X0_in ⟨Nat.le_of_ble_eq_true rfl, Nat.le_of_ble_eq_true rfl⟩ [.long ((x1).toInt64), .long (lN 0), .long (((z_11 - (nI 1))).toInt64)] [] (met_X0_in hw) rfl (Nat.zero_le _) ⟨Nat.le_refl _, Nat.le_refl _⟩ dX0_isPrinted_16 rfl (v_ki (fun z_12 h1 hv => ?_))
  clear hw
  obtain ⟨e9, hw⟩ := hv
  refine v_heap e9 ?_
  clear e9
  obtain ⟨hn_13, hw⟩ := hw
  exact v_zret dX0_isPrinted_19 rfl (v_z1 hn_13).1 ⟨_, rfl, rfl, hw⟩
theorem met_X0_isPrinted {post : (Int32) → Prop}   {b0 : Nat} {x1 : Int32} {h : AH}  (hw : w_X0_isPrinted post  b0 x1 h) : Mt l E yX0_isPrinted (ws_ yX0_isPrinted cX0_isPrinted 2 (some .boolean)) r_X0_isPrinted [va_rf (some b0), .int x1] h (vpi (fun (r : Int32) (h' : AH) => h' = h ∧ post r)) := v_entry (by decide +kernel) (Nat.le_of_ble_eq_true rfl) rfl (fun _ => e_X0_isPrinted hw)
/-! X0_lineAt -/
abbrev r_X0_lineAt : Room := { frames := 3, cells := 0, slots := 0, locals := 64 }
theorem n_X0_lineAt : vdn yX0_lineAt 3 := ⟨by decide +kernel, by decide +kernel, by decide +kernel⟩
def w_X0_lineAt (post : (Option Nat) → Prop) (b0 : Nat) (x1 : Int32) (x2 : Int32) (x3 : Int32) (h : AH) : Prop :=
 ((x1 = (nI 0) → (∃ fs_66 : List Value, h b0 = some (.inr (0, fs_66)) ∧ (w_X0_isSong (fun (z_5 : Int32) => ((z_5 = 0 → (post none)) ∧ (¬ z_5 = 0 → (∃ (fs_10 : List Value) (r_13 : Option Nat), h b0 = some (.inr (0, fs_10)) ∧ fs_10[1]? = some (va_rf r_13) ∧ (∃ a_14 : Nat, r_13 = some a_14 ∧ (∃ (fs_15 : List Value) (r_18 : Option Nat), h a_14 = some (.inr (1, fs_15)) ∧ fs_15[3]? = some (va_rf r_18) ∧ (∃ a_19 : Nat, r_18 = some a_19 ∧ (∃ fs_64 : List Value, h a_19 = some (.inr (2, fs_64)) ∧ (w_J2_get (fun (r_20 : Option Nat) => (∃ a_21 : Nat, r_20 = some a_21 ∧ (∃ fs_22 : List Value, h a_21 = some (.inr (8, fs_22)) ∧ (∃ (fs_24 : List Value) (r_27 : Option Nat), h a_21 = some (.inr (8, fs_24)) ∧ fs_24[4]? = some (va_rf r_27) ∧ (∃ a_28 : Nat, r_27 = some a_28 ∧ (∃ fs_62 : List Value, h a_28 = some (.inr (2, fs_62)) ∧ (w_J2_size (fun (z_29 : Int32) => (w_X0_in (fun (z_30 : Int32) => ((z_30 = 0 → (post none)) ∧ (¬ z_30 = 0 → (∃ (fs_35 : List Value) (r_38 : Option Nat), h b0 = some (.inr (0, fs_35)) ∧ fs_35[1]? = some (va_rf r_38) ∧ (∃ a_39 : Nat, r_38 = some a_39 ∧ (∃ (fs_40 : List Value) (r_43 : Option Nat), h a_39 = some (.inr (1, fs_40)) ∧ fs_40[3]? = some (va_rf r_43) ∧ (∃ a_44 : Nat, r_43 = some a_44 ∧ (∃ fs_60 : List Value, h a_44 = some (.inr (2, fs_60)) ∧ (w_J2_get (fun (r_45 : Option Nat) => (∃ a_46 : Nat, r_45 = some a_46 ∧ (∃ fs_47 : List Value, h a_46 = some (.inr (8, fs_47)) ∧ (∃ (fs_49 : List Value) (r_52 : Option Nat), h a_46 = some (.inr (8, fs_49)) ∧ fs_49[4]? = some (va_rf r_52) ∧ (∃ a_53 : Nat, r_52 = some a_53 ∧ (∃ fs_58 : List Value, h a_53 = some (.inr (2, fs_58)) ∧ (w_J2_get (fun (r_54 : Option Nat) => (∃ a_55 : Nat, r_54 = some a_55 ∧ (∃ fs_56 : List Value, h a_55 = some (.inr (9, fs_56)) ∧ (post (some a_55))))) a_53 x3 h))))))) a_44 x2 h))))))))) ((x3).toInt64) (lN 0) (((z_29 - (nI 1))).toInt64))) a_28 h))))))) a_19 x2 h))))))))) b0 x2 h))) ∧ (¬ x1 = (nI 0) → ((x1 = (nI 1) → (∃ fs_133 : List Value, h b0 = some (.inr (0, fs_133)) ∧ (w_X0_isBook (fun (z_72 : Int32) => ((z_72 = 0 → (post none)) ∧ (¬ z_72 = 0 → (∃ (fs_77 : List Value) (r_80 : Option Nat), h b0 = some (.inr (0, fs_77)) ∧ fs_77[1]? = some (va_rf r_80) ∧ (∃ a_81 : Nat, r_80 = some a_81 ∧ (∃ (fs_82 : List Value) (r_85 : Option Nat), h a_81 = some (.inr (1, fs_82)) ∧ fs_82[4]? = some (va_rf r_85) ∧ (∃ a_86 : Nat, r_85 = some a_86 ∧ (∃ fs_131 : List Value, h a_86 = some (.inr (2, fs_131)) ∧ (w_J2_get (fun (r_87 : Option Nat) => (∃ a_88 : Nat, r_87 = some a_88 ∧ (∃ fs_89 : List Value, h a_88 = some (.inr (8, fs_89)) ∧ (∃ (fs_91 : List Value) (r_94 : Option Nat), h a_88 = some (.inr (8, fs_91)) ∧ fs_91[4]? = some (va_rf r_94) ∧ (∃ a_95 : Nat, r_94 = some a_95 ∧ (∃ fs_129 : List Value, h a_95 = some (.inr (2, fs_129)) ∧ (w_J2_size (fun (z_96 : Int32) => (w_X0_in (fun (z_97 : Int32) => ((z_97 = 0 → (post none)) ∧ (¬ z_97 = 0 → (∃ (fs_102 : List Value) (r_105 : Option Nat), h b0 = some (.inr (0, fs_102)) ∧ fs_102[1]? = some (va_rf r_105) ∧ (∃ a_106 : Nat, r_105 = some a_106 ∧ (∃ (fs_107 : List Value) (r_110 : Option Nat), h a_106 = some (.inr (1, fs_107)) ∧ fs_107[4]? = some (va_rf r_110) ∧ (∃ a_111 : Nat, r_110 = some a_111 ∧ (∃ fs_127 : List Value, h a_111 = some (.inr (2, fs_127)) ∧ (w_J2_get (fun (r_112 : Option Nat) => (∃ a_113 : Nat, r_112 = some a_113 ∧ (∃ fs_114 : List Value, h a_113 = some (.inr (8, fs_114)) ∧ (∃ (fs_116 : List Value) (r_119 : Option Nat), h a_113 = some (.inr (8, fs_116)) ∧ fs_116[4]? = some (va_rf r_119) ∧ (∃ a_120 : Nat, r_119 = some a_120 ∧ (∃ fs_125 : List Value, h a_120 = some (.inr (2, fs_125)) ∧ (w_J2_get (fun (r_121 : Option Nat) => (∃ a_122 : Nat, r_121 = some a_122 ∧ (∃ fs_123 : List Value, h a_122 = some (.inr (9, fs_123)) ∧ (post (some a_122))))) a_120 x3 h))))))) a_111 x2 h))))))))) ((x3).toInt64) (lN 0) (((z_96 - (nI 1))).toInt64))) a_95 h))))))) a_86 x2 h))))))))) b0 x2 h))) ∧ (¬ x1 = (nI 1) → ((x1 = (nI 2) → (∃ fs_164 : List Value, h b0 = some (.inr (0, fs_164)) ∧ (w_X0_isPrinted (fun (z_139 : Int32) => ((z_139 = 0 → (post none)) ∧ (¬ z_139 = 0 → (∃ (fs_144 : List Value) (r_147 : Option Nat), h b0 = some (.inr (0, fs_144)) ∧ fs_144[1]? = some (va_rf r_147) ∧ (∃ a_148 : Nat, r_147 = some a_148 ∧ (∃ (fs_149 : List Value) (r_152 : Option Nat), h a_148 = some (.inr (1, fs_149)) ∧ fs_149[5]? = some (va_rf r_152) ∧ (∃ a_153 : Nat, r_152 = some a_153 ∧ (∃ fs_162 : List Value, h a_153 = some (.inr (2, fs_162)) ∧ (w_J2_get (fun (r_154 : Option Nat) => (∃ a_155 : Nat, r_154 = some a_155 ∧ (∃ fs_156 : List Value, h a_155 = some (.inr (10, fs_156)) ∧ (∃ (fs_158 : List Value) (r_161 : Option Nat), h a_155 = some (.inr (10, fs_158)) ∧ fs_158[0]? = some (va_rf r_161) ∧ (post r_161))))) a_153 x3 h))))))))) b0 x3 h))) ∧ (¬ x1 = (nI 2) → ((x1 = (nI 3) → (∃ (fs_170 : List Value) (r_173 : Option Nat), h b0 = some (.inr (0, fs_170)) ∧ fs_170[1]? = some (va_rf r_173) ∧ (∃ a_174 : Nat, r_173 = some a_174 ∧ (∃ (fs_175 : List Value) (r_178 : Option Nat), h a_174 = some (.inr (1, fs_175)) ∧ fs_175[6]? = some (va_rf r_178) ∧ (∃ a_179 : Nat, r_178 = some a_179 ∧ (∃ fs_206 : List Value, h a_179 = some (.inr (2, fs_206)) ∧ (w_J2_size (fun (z_180 : Int32) => (w_X0_in (fun (z_181 : Int32) => ((z_181 = 0 → (post none)) ∧ (¬ z_181 = 0 → (∃ (fs_186 : List Value) (r_189 : Option Nat), h b0 = some (.inr (0, fs_186)) ∧ fs_186[1]? = some (va_rf r_189) ∧ (∃ a_190 : Nat, r_189 = some a_190 ∧ (∃ (fs_191 : List Value) (r_194 : Option Nat), h a_190 = some (.inr (1, fs_191)) ∧ fs_191[6]? = some (va_rf r_194) ∧ (∃ a_195 : Nat, r_194 = some a_195 ∧ (∃ fs_204 : List Value, h a_195 = some (.inr (2, fs_204)) ∧ (w_J2_get (fun (r_196 : Option Nat) => (∃ a_197 : Nat, r_196 = some a_197 ∧ (∃ fs_198 : List Value, h a_197 = some (.inr (22, fs_198)) ∧ (∃ (fs_200 : List Value) (r_203 : Option Nat), h a_197 = some (.inr (22, fs_200)) ∧ fs_200[0]? = some (va_rf r_203) ∧ (post r_203))))) a_195 x2 h))))))))) ((x2).toInt64) (lN 0) (((z_180 - (nI 1))).toInt64))) a_179 h))))))) ∧ (¬ x1 = (nI 3) → ((x1 = (nI 4) → (∃ (fs_212 : List Value) (r_215 : Option Nat), h b0 = some (.inr (0, fs_212)) ∧ fs_212[1]? = some (va_rf r_215) ∧ (∃ a_216 : Nat, r_215 = some a_216 ∧ (∃ (fs_217 : List Value) (r_220 : Option Nat), h a_216 = some (.inr (1, fs_217)) ∧ fs_217[6]? = some (va_rf r_220) ∧ (∃ a_221 : Nat, r_220 = some a_221 ∧ (∃ fs_248 : List Value, h a_221 = some (.inr (2, fs_248)) ∧ (w_J2_size (fun (z_222 : Int32) => (w_X0_in (fun (z_223 : Int32) => ((z_223 = 0 → (post none)) ∧ (¬ z_223 = 0 → (∃ (fs_228 : List Value) (r_231 : Option Nat), h b0 = some (.inr (0, fs_228)) ∧ fs_228[1]? = some (va_rf r_231) ∧ (∃ a_232 : Nat, r_231 = some a_232 ∧ (∃ (fs_233 : List Value) (r_236 : Option Nat), h a_232 = some (.inr (1, fs_233)) ∧ fs_233[6]? = some (va_rf r_236) ∧ (∃ a_237 : Nat, r_236 = some a_237 ∧ (∃ fs_246 : List Value, h a_237 = some (.inr (2, fs_246)) ∧ (w_J2_get (fun (r_238 : Option Nat) => (∃ a_239 : Nat, r_238 = some a_239 ∧ (∃ fs_240 : List Value, h a_239 = some (.inr (22, fs_240)) ∧ (∃ (fs_242 : List Value) (r_245 : Option Nat), h a_239 = some (.inr (22, fs_242)) ∧ fs_242[1]? = some (va_rf r_245) ∧ (post r_245))))) a_237 x2 h))))))))) ((x2).toInt64) (lN 0) (((z_222 - (nI 1))).toInt64))) a_221 h))))))) ∧ (¬ x1 = (nI 4) → (post none)))))))))))
theorem e_X0_lineAt {post : (Option Nat) → Prop}   {b0 : Nat} {x1 : Int32} {x2 : Int32} {x3 : Int32} {h : AH}  (hw : w_X0_lineAt post  b0 x1 x2 x3 h) : VV l E X cX0_lineAt RX0 "lineAt" 4 r_X0_lineAt (some (.object "NobodysBard$Phrase")) (vpq (fun (r : Option Nat) (h' : AH) => h' = h ∧ post r)) h 0 0 0 [(0, va_rf (some b0)), (1, .int x1), (2, .int x2), (3, .int x3)] [] := by
  refine v_iload_n (q := 1) dX0_lineAt_0 rfl rfl ?_
  obtain ⟨hw_3, hw_4⟩ := hw
  by_cases c_1 : x1 = (nI 0)
  · have hw := hw_3 c_1
    refine v_tswIn (off := 35) (tgt := 36) dX0_lineAt_1 (by rw [c_1]; decide) (by rw [c_1]; decide) (by rw [c_1]; rfl) (by decide) ?_
    refine v_aload_n (q := 0) dX0_lineAt_36 rfl rfl ?_
    refine v_iload_n (q := 2) dX0_lineAt_37 rfl rfl ?_
    obtain ⟨fs_66, e_67, hw⟩ := hw
    refine v_callV q525 q527 qs4 q104 q528 (ci := 0) rfl e_67 n_X0_isSong ⟨Nat.le_of_ble_eq_true rfl, Nat.le_of_ble_eq_true rfl⟩ [.int x2] [] (met_X0_isSong hw) rfl (Nat.zero_le _) ⟨Nat.le_refl _, Nat.le_refl _⟩ dX0_lineAt_38 rfl (v_ki (fun z_5 h1 hv => ?_))
    clear hw
    obtain ⟨e9, hw⟩ := hv
    refine v_heap e9 ?_
    clear e9
    obtain ⟨hw_8, hw_9⟩ := hw
    refine v_if_eq (tgt := 103) dX0_lineAt_41 (by decide) (fun c_6 => ?_) (fun c_7 => ?_)
    · have hw := hw_8 c_6
      refine v_null dX0_lineAt_103 ?_
      exact v_aret dX0_lineAt_104 rfl (Or.inl ⟨_, rfl⟩) ⟨_, rfl, rfl, hw⟩
    · have hw := hw_9 c_7
      refine v_iload_n (q := 3) dX0_lineAt_44 rfl rfl ?_
      refine v_i2l dX0_lineAt_45 ?_
      refine v_lconst (v := lN 0) dX0_lineAt_46 rfl ?_
      refine v_aload_n (q := 0) dX0_lineAt_47 rfl rfl ?_
      obtain ⟨fs_10, r_13, e_11, e_12, hw⟩ := hw
      refine v_get in_X0 (ci := 0) rfl 1 (Nat.le_of_ble_eq_true rfl) q319 rfl dX0_lineAt_48 e_11 e_12 ?_
      obtain ⟨a_14, ea_14, hw⟩ := hw
      subst ea_14
      obtain ⟨fs_15, r_18, e_16, e_17, hw⟩ := hw
      refine v_getN in_X1 (ci := 1) rfl 3 (Nat.le_of_ble_eq_true rfl) q226 rfl dX0_lineAt_51 e_16 e_17 ?_
      refine v_iload_n (q := 2) dX0_lineAt_54 rfl rfl ?_
      obtain ⟨a_19, ea_19, hw⟩ := hw
      subst ea_19
      obtain ⟨fs_64, e_65, hw⟩ := hw
      refine v_callV q577 q578 q579 q108 q580 (ci := 2) rfl e_65 n_J2_get ⟨Nat.le_of_ble_eq_true rfl, Nat.le_of_ble_eq_true rfl⟩ [.int x2] [.long (lN 0), .long ((x3).toInt64)] (met_J2_get hw) rfl (Nat.le_of_ble_eq_true rfl) ⟨Nat.le_refl _, Nat.le_refl _⟩ dX0_lineAt_55 rfl (v_kq (fun r_20 h1 hv => ?_))
      clear hw
      obtain ⟨e9, hw⟩ := hv
      refine v_heap e9 ?_
      clear e9
      obtain ⟨a_21, ea_21, hw⟩ := hw
      subst ea_21
      obtain ⟨fs_22, e_23, hw⟩ := hw
      refine v_cast (ci := 8) rfl q417 dX0_lineAt_58 e_23 ?_
      obtain ⟨fs_24, r_27, e_25, e_26, hw⟩ := hw
      refine v_getN in_X7 (ci := 8) rfl 4 (Nat.le_of_ble_eq_true rfl) q433 rfl dX0_lineAt_61 e_25 e_26 ?_
      obtain ⟨a_28, ea_28, hw⟩ := hw
      subst ea_28
      obtain ⟨fs_62, e_63, hw⟩ := hw
      refine v_callV q413 q414 q415 q108 q416 (ci := 2) rfl e_63 n_J2_size ⟨Nat.le_of_ble_eq_true rfl, Nat.le_of_ble_eq_true rfl⟩ [] [.long (lN 0), .long ((x3).toInt64)] (met_J2_size hw) rfl (Nat.le_of_ble_eq_true rfl) ⟨Nat.le_refl _, Nat.le_refl _⟩ dX0_lineAt_64 rfl (v_ki (fun z_29 h1 hv => ?_))
      clear hw
      obtain ⟨e9, hw⟩ := hv
      refine v_heap e9 ?_
      clear e9
      refine v_iconst dX0_lineAt_67 ic_1 ?_
      refine v_isub dX0_lineAt_68 ?_
      refine v_i2l dX0_lineAt_69 ?_
      refine v_callS q393 q394 q104 q395 n_X0_in ⟨Nat.le_of_ble_eq_true rfl, Nat.le_of_ble_eq_true rfl⟩ [.long ((x3).toInt64), .long (lN 0), .long (((z_29 - (nI 1))).toInt64)] [] (met_X0_in hw) rfl (Nat.zero_le _) ⟨Nat.le_refl _, Nat.le_refl _⟩ dX0_lineAt_70 rfl (v_ki (fun z_30 h1 hv => ?_))
      clear hw
      obtain ⟨e9, hw⟩ := hv
      refine v_heap e9 ?_
      clear e9
      obtain ⟨hw_33, hw_34⟩ := hw
      refine v_if_eq (tgt := 103) dX0_lineAt_73 (by decide) (fun c_31 => ?_) (fun c_32 => ?_)
      · have hw := hw_33 c_31
        refine v_null dX0_lineAt_103 ?_
        exact v_aret dX0_lineAt_104 rfl (Or.inl ⟨_, rfl⟩) ⟨_, rfl, rfl, hw⟩
      · have hw := hw_34 c_32
        refine v_aload_n (q := 0) dX0_lineAt_76 rfl rfl ?_
        obtain ⟨fs_35, r_38, e_36, e_37, hw⟩ := hw
        refine v_get in_X0 (ci := 0) rfl 1 (Nat.le_of_ble_eq_true rfl) q319 rfl dX0_lineAt_77 e_36 e_37 ?_
        obtain ⟨a_39, ea_39, hw⟩ := hw
        subst ea_39
        obtain ⟨fs_40, r_43, e_41, e_42, hw⟩ := hw
        refine v_getN in_X1 (ci := 1) rfl 3 (Nat.le_of_ble_eq_true rfl) q226 rfl dX0_lineAt_80 e_41 e_42 ?_
        refine v_iload_n (q := 2) dX0_lineAt_83 rfl rfl ?_
        obtain ⟨a_44, ea_44, hw⟩ := hw
        subst ea_44
        obtain ⟨fs_60, e_61, hw⟩ := hw
        refine v_callV q577 q578 q579 q108 q580 (ci := 2) rfl e_61 n_J2_get ⟨Nat.le_of_ble_eq_true rfl, Nat.le_of_ble_eq_true rfl⟩ [.int x2] [] (met_J2_get hw) rfl (Nat.zero_le _) ⟨Nat.le_refl _, Nat.le_refl _⟩ dX0_lineAt_84 rfl (v_kq (fun r_45 h1 hv => ?_))
        clear hw
        obtain ⟨e9, hw⟩ := hv
        refine v_heap e9 ?_
        clear e9
        obtain ⟨a_46, ea_46, hw⟩ := hw
        subst ea_46
        obtain ⟨fs_47, e_48, hw⟩ := hw
        refine v_cast (ci := 8) rfl q417 dX0_lineAt_87 e_48 ?_
        obtain ⟨fs_49, r_52, e_50, e_51, hw⟩ := hw
        refine v_getN in_X7 (ci := 8) rfl 4 (Nat.le_of_ble_eq_true rfl) q433 rfl dX0_lineAt_90 e_50 e_51 ?_
        refine v_iload_n (q := 3) dX0_lineAt_93 rfl rfl ?_
        obtain ⟨a_53, ea_53, hw⟩ := hw
        subst ea_53
        obtain ⟨fs_58, e_59, hw⟩ := hw
        refine v_callV q577 q578 q579 q108 q580 (ci := 2) rfl e_59 n_J2_get ⟨Nat.le_of_ble_eq_true rfl, Nat.le_of_ble_eq_true rfl⟩ [.int x3] [] (met_J2_get hw) rfl (Nat.zero_le _) ⟨Nat.le_refl _, Nat.le_refl _⟩ dX0_lineAt_94 rfl (v_kq (fun r_54 h1 hv => ?_))
        clear hw
        obtain ⟨e9, hw⟩ := hv
        refine v_heap e9 ?_
        clear e9
        obtain ⟨a_55, ea_55, hw⟩ := hw
        subst ea_55
        obtain ⟨fs_56, e_57, hw⟩ := hw
        refine v_cast (ci := 9) rfl q304 dX0_lineAt_97 e_57 ?_
        refine v_goto (tgt := 104) dX0_lineAt_100 (by decide) ?_
        exact v_aret dX0_lineAt_104 rfl (Or.inl ⟨_, rfl⟩) ⟨_, rfl, rfl, hw⟩
  have hw := hw_4 c_1
  obtain ⟨hw_70, hw_71⟩ := hw
  by_cases c_68 : x1 = (nI 1)
  · have hw := hw_70 c_68
    refine v_tswIn (off := 104) (tgt := 105) dX0_lineAt_1 (by rw [c_68]; decide) (by rw [c_68]; decide) (by rw [c_68]; rfl) (by decide) ?_
    refine v_aload_n (q := 0) dX0_lineAt_105 rfl rfl ?_
    refine v_iload_n (q := 2) dX0_lineAt_106 rfl rfl ?_
    obtain ⟨fs_133, e_134, hw⟩ := hw
    refine v_callV q529 q531 qs5 q104 q532 (ci := 0) rfl e_134 n_X0_isBook ⟨Nat.le_of_ble_eq_true rfl, Nat.le_of_ble_eq_true rfl⟩ [.int x2] [] (met_X0_isBook hw) rfl (Nat.zero_le _) ⟨Nat.le_refl _, Nat.le_refl _⟩ dX0_lineAt_107 rfl (v_ki (fun z_72 h1 hv => ?_))
    clear hw
    obtain ⟨e9, hw⟩ := hv
    refine v_heap e9 ?_
    clear e9
    obtain ⟨hw_75, hw_76⟩ := hw
    refine v_if_eq (tgt := 172) dX0_lineAt_110 (by decide) (fun c_73 => ?_) (fun c_74 => ?_)
    · have hw := hw_75 c_73
      refine v_null dX0_lineAt_172 ?_
      exact v_aret dX0_lineAt_173 rfl (Or.inl ⟨_, rfl⟩) ⟨_, rfl, rfl, hw⟩
    · have hw := hw_76 c_74
      refine v_iload_n (q := 3) dX0_lineAt_113 rfl rfl ?_
      refine v_i2l dX0_lineAt_114 ?_
      refine v_lconst (v := lN 0) dX0_lineAt_115 rfl ?_
      refine v_aload_n (q := 0) dX0_lineAt_116 rfl rfl ?_
      obtain ⟨fs_77, r_80, e_78, e_79, hw⟩ := hw
      refine v_get in_X0 (ci := 0) rfl 1 (Nat.le_of_ble_eq_true rfl) q319 rfl dX0_lineAt_117 e_78 e_79 ?_
      obtain ⟨a_81, ea_81, hw⟩ := hw
      subst ea_81
      obtain ⟨fs_82, r_85, e_83, e_84, hw⟩ := hw
      refine v_getN in_X1 (ci := 1) rfl 4 (Nat.le_of_ble_eq_true rfl) q228 rfl dX0_lineAt_120 e_83 e_84 ?_
      refine v_iload_n (q := 2) dX0_lineAt_123 rfl rfl ?_
      obtain ⟨a_86, ea_86, hw⟩ := hw
      subst ea_86
      obtain ⟨fs_131, e_132, hw⟩ := hw
      refine v_callV q577 q578 q579 q108 q580 (ci := 2) rfl e_132 n_J2_get ⟨Nat.le_of_ble_eq_true rfl, Nat.le_of_ble_eq_true rfl⟩ [.int x2] [.long (lN 0), .long ((x3).toInt64)] (met_J2_get hw) rfl (Nat.le_of_ble_eq_true rfl) ⟨Nat.le_refl _, Nat.le_refl _⟩ dX0_lineAt_124 rfl (v_kq (fun r_87 h1 hv => ?_))
      clear hw
      obtain ⟨e9, hw⟩ := hv
      refine v_heap e9 ?_
      clear e9
      obtain ⟨a_88, ea_88, hw⟩ := hw
      subst ea_88
      obtain ⟨fs_89, e_90, hw⟩ := hw
      refine v_cast (ci := 8) rfl q417 dX0_lineAt_127 e_90 ?_
      obtain ⟨fs_91, r_94, e_92, e_93, hw⟩ := hw
      refine v_getN in_X7 (ci := 8) rfl 4 (Nat.le_of_ble_eq_true rfl) q433 rfl dX0_lineAt_130 e_92 e_93 ?_
      obtain ⟨a_95, ea_95, hw⟩ := hw
      subst ea_95
      obtain ⟨fs_129, e_130, hw⟩ := hw
      refine v_callV q413 q414 q415 q108 q416 (ci := 2) rfl e_130 n_J2_size ⟨Nat.le_of_ble_eq_true rfl, Nat.le_of_ble_eq_true rfl⟩ [] [.long (lN 0), .long ((x3).toInt64)] (met_J2_size hw) rfl (Nat.le_of_ble_eq_true rfl) ⟨Nat.le_refl _, Nat.le_refl _⟩ dX0_lineAt_133 rfl (v_ki (fun z_96 h1 hv => ?_))
      clear hw
      obtain ⟨e9, hw⟩ := hv
      refine v_heap e9 ?_
      clear e9
      refine v_iconst dX0_lineAt_136 ic_1 ?_
      refine v_isub dX0_lineAt_137 ?_
      refine v_i2l dX0_lineAt_138 ?_
      refine v_callS q393 q394 q104 q395 n_X0_in ⟨Nat.le_of_ble_eq_true rfl, Nat.le_of_ble_eq_true rfl⟩ [.long ((x3).toInt64), .long (lN 0), .long (((z_96 - (nI 1))).toInt64)] [] (met_X0_in hw) rfl (Nat.zero_le _) ⟨Nat.le_refl _, Nat.le_refl _⟩ dX0_lineAt_139 rfl (v_ki (fun z_97 h1 hv => ?_))
      clear hw
      obtain ⟨e9, hw⟩ := hv
      refine v_heap e9 ?_
      clear e9
      obtain ⟨hw_100, hw_101⟩ := hw
      refine v_if_eq (tgt := 172) dX0_lineAt_142 (by decide) (fun c_98 => ?_) (fun c_99 => ?_)
      · have hw := hw_100 c_98
        refine v_null dX0_lineAt_172 ?_
        exact v_aret dX0_lineAt_173 rfl (Or.inl ⟨_, rfl⟩) ⟨_, rfl, rfl, hw⟩
      · have hw := hw_101 c_99
        refine v_aload_n (q := 0) dX0_lineAt_145 rfl rfl ?_
        obtain ⟨fs_102, r_105, e_103, e_104, hw⟩ := hw
        refine v_get in_X0 (ci := 0) rfl 1 (Nat.le_of_ble_eq_true rfl) q319 rfl dX0_lineAt_146 e_103 e_104 ?_
        obtain ⟨a_106, ea_106, hw⟩ := hw
        subst ea_106
        obtain ⟨fs_107, r_110, e_108, e_109, hw⟩ := hw
        refine v_getN in_X1 (ci := 1) rfl 4 (Nat.le_of_ble_eq_true rfl) q228 rfl dX0_lineAt_149 e_108 e_109 ?_
        refine v_iload_n (q := 2) dX0_lineAt_152 rfl rfl ?_
        obtain ⟨a_111, ea_111, hw⟩ := hw
        subst ea_111
        obtain ⟨fs_127, e_128, hw⟩ := hw
        refine v_callV q577 q578 q579 q108 q580 (ci := 2) rfl e_128 n_J2_get ⟨Nat.le_of_ble_eq_true rfl, Nat.le_of_ble_eq_true rfl⟩ [.int x2] [] (met_J2_get hw) rfl (Nat.zero_le _) ⟨Nat.le_refl _, Nat.le_refl _⟩ dX0_lineAt_153 rfl (v_kq (fun r_112 h1 hv => ?_))
        clear hw
        obtain ⟨e9, hw⟩ := hv
        refine v_heap e9 ?_
        clear e9
        obtain ⟨a_113, ea_113, hw⟩ := hw
        subst ea_113
        obtain ⟨fs_114, e_115, hw⟩ := hw
        refine v_cast (ci := 8) rfl q417 dX0_lineAt_156 e_115 ?_
        obtain ⟨fs_116, r_119, e_117, e_118, hw⟩ := hw
        refine v_getN in_X7 (ci := 8) rfl 4 (Nat.le_of_ble_eq_true rfl) q433 rfl dX0_lineAt_159 e_117 e_118 ?_
        refine v_iload_n (q := 3) dX0_lineAt_162 rfl rfl ?_
        obtain ⟨a_120, ea_120, hw⟩ := hw
        subst ea_120
        obtain ⟨fs_125, e_126, hw⟩ := hw
        refine v_callV q577 q578 q579 q108 q580 (ci := 2) rfl e_126 n_J2_get ⟨Nat.le_of_ble_eq_true rfl, Nat.le_of_ble_eq_true rfl⟩ [.int x3] [] (met_J2_get hw) rfl (Nat.zero_le _) ⟨Nat.le_refl _, Nat.le_refl _⟩ dX0_lineAt_163 rfl (v_kq (fun r_121 h1 hv => ?_))
        clear hw
        obtain ⟨e9, hw⟩ := hv
        refine v_heap e9 ?_
        clear e9
        obtain ⟨a_122, ea_122, hw⟩ := hw
        subst ea_122
        obtain ⟨fs_123, e_124, hw⟩ := hw
        refine v_cast (ci := 9) rfl q304 dX0_lineAt_166 e_124 ?_
        refine v_goto (tgt := 173) dX0_lineAt_169 (by decide) ?_
        exact v_aret dX0_lineAt_173 rfl (Or.inl ⟨_, rfl⟩) ⟨_, rfl, rfl, hw⟩
  have hw := hw_71 c_68
  obtain ⟨hw_137, hw_138⟩ := hw
  by_cases c_135 : x1 = (nI 2)
  · have hw := hw_137 c_135
    refine v_tswIn (off := 173) (tgt := 174) dX0_lineAt_1 (by rw [c_135]; decide) (by rw [c_135]; decide) (by rw [c_135]; rfl) (by decide) ?_
    refine v_aload_n (q := 0) dX0_lineAt_174 rfl rfl ?_
    refine v_iload_n (q := 3) dX0_lineAt_175 rfl rfl ?_
    obtain ⟨fs_164, e_165, hw⟩ := hw
    refine v_callV q608 q610 qs7 q104 q611 (ci := 0) rfl e_165 n_X0_isPrinted ⟨Nat.le_of_ble_eq_true rfl, Nat.le_of_ble_eq_true rfl⟩ [.int x3] [] (met_X0_isPrinted hw) rfl (Nat.zero_le _) ⟨Nat.le_refl _, Nat.le_refl _⟩ dX0_lineAt_176 rfl (v_ki (fun z_139 h1 hv => ?_))
    clear hw
    obtain ⟨e9, hw⟩ := hv
    refine v_heap e9 ?_
    clear e9
    obtain ⟨hw_142, hw_143⟩ := hw
    refine v_if_eq (tgt := 202) dX0_lineAt_179 (by decide) (fun c_140 => ?_) (fun c_141 => ?_)
    · have hw := hw_142 c_140
      refine v_null dX0_lineAt_202 ?_
      exact v_aret dX0_lineAt_203 rfl (Or.inl ⟨_, rfl⟩) ⟨_, rfl, rfl, hw⟩
    · have hw := hw_143 c_141
      refine v_aload_n (q := 0) dX0_lineAt_182 rfl rfl ?_
      obtain ⟨fs_144, r_147, e_145, e_146, hw⟩ := hw
      refine v_get in_X0 (ci := 0) rfl 1 (Nat.le_of_ble_eq_true rfl) q319 rfl dX0_lineAt_183 e_145 e_146 ?_
      obtain ⟨a_148, ea_148, hw⟩ := hw
      subst ea_148
      obtain ⟨fs_149, r_152, e_150, e_151, hw⟩ := hw
      refine v_getN in_X1 (ci := 1) rfl 5 (Nat.le_of_ble_eq_true rfl) q230 rfl dX0_lineAt_186 e_150 e_151 ?_
      refine v_iload_n (q := 3) dX0_lineAt_189 rfl rfl ?_
      obtain ⟨a_153, ea_153, hw⟩ := hw
      subst ea_153
      obtain ⟨fs_162, e_163, hw⟩ := hw
      refine v_callV q577 q578 q579 q108 q580 (ci := 2) rfl e_163 n_J2_get ⟨Nat.le_of_ble_eq_true rfl, Nat.le_of_ble_eq_true rfl⟩ [.int x3] [] (met_J2_get hw) rfl (Nat.zero_le _) ⟨Nat.le_refl _, Nat.le_refl _⟩ dX0_lineAt_190 rfl (v_kq (fun r_154 h1 hv => ?_))
      clear hw
      obtain ⟨e9, hw⟩ := hv
      refine v_heap e9 ?_
      clear e9
      obtain ⟨a_155, ea_155, hw⟩ := hw
      subst ea_155
      obtain ⟨fs_156, e_157, hw⟩ := hw
      refine v_cast (ci := 10) rfl q562 dX0_lineAt_193 e_157 ?_
      obtain ⟨fs_158, r_161, e_159, e_160, hw⟩ := hw
      refine v_getN in_X9 (ci := 10) rfl 0 (Nat.le_of_ble_eq_true rfl) q569 rfl dX0_lineAt_196 e_159 e_160 ?_
      refine v_goto (tgt := 203) dX0_lineAt_199 (by decide) ?_
      exact v_aret dX0_lineAt_203 rfl (Or.inl ⟨_, rfl⟩) ⟨_, rfl, rfl, hw⟩
  have hw := hw_138 c_135
  obtain ⟨hw_168, hw_169⟩ := hw
  by_cases c_166 : x1 = (nI 3)
  · have hw := hw_168 c_166
    refine v_tswIn (off := 203) (tgt := 204) dX0_lineAt_1 (by rw [c_166]; decide) (by rw [c_166]; decide) (by rw [c_166]; rfl) (by decide) ?_
    refine v_iload_n (q := 2) dX0_lineAt_204 rfl rfl ?_
    refine v_i2l dX0_lineAt_205 ?_
    refine v_lconst (v := lN 0) dX0_lineAt_206 rfl ?_
    refine v_aload_n (q := 0) dX0_lineAt_207 rfl rfl ?_
    obtain ⟨fs_170, r_173, e_171, e_172, hw⟩ := hw
    refine v_get in_X0 (ci := 0) rfl 1 (Nat.le_of_ble_eq_true rfl) q319 rfl dX0_lineAt_208 e_171 e_172 ?_
    obtain ⟨a_174, ea_174, hw⟩ := hw
    subst ea_174
    obtain ⟨fs_175, r_178, e_176, e_177, hw⟩ := hw
    refine v_getN in_X1 (ci := 1) rfl 6 (Nat.le_of_ble_eq_true rfl) q232 rfl dX0_lineAt_211 e_176 e_177 ?_
    obtain ⟨a_179, ea_179, hw⟩ := hw
    subst ea_179
    obtain ⟨fs_206, e_207, hw⟩ := hw
    refine v_callV q413 q414 q415 q108 q416 (ci := 2) rfl e_207 n_J2_size ⟨Nat.le_of_ble_eq_true rfl, Nat.le_of_ble_eq_true rfl⟩ [] [.long (lN 0), .long ((x2).toInt64)] (met_J2_size hw) rfl (Nat.le_of_ble_eq_true rfl) ⟨Nat.le_refl _, Nat.le_refl _⟩ dX0_lineAt_214 rfl (v_ki (fun z_180 h1 hv => ?_))
    clear hw
    obtain ⟨e9, hw⟩ := hv
    refine v_heap e9 ?_
    clear e9
    refine v_iconst dX0_lineAt_217 ic_1 ?_
    refine v_isub dX0_lineAt_218 ?_
    refine v_i2l dX0_lineAt_219 ?_
    refine v_callS q393 q394 q104 q395 n_X0_in ⟨Nat.le_of_ble_eq_true rfl, Nat.le_of_ble_eq_true rfl⟩ [.long ((x2).toInt64), .long (lN 0), .long (((z_180 - (nI 1))).toInt64)] [] (met_X0_in hw) rfl (Nat.zero_le _) ⟨Nat.le_refl _, Nat.le_refl _⟩ dX0_lineAt_220 rfl (v_ki (fun z_181 h1 hv => ?_))
    clear hw
    obtain ⟨e9, hw⟩ := hv
    refine v_heap e9 ?_
    clear e9
    obtain ⟨hw_184, hw_185⟩ := hw
    refine v_if_eq (tgt := 246) dX0_lineAt_223 (by decide) (fun c_182 => ?_) (fun c_183 => ?_)
    · have hw := hw_184 c_182
      refine v_null dX0_lineAt_246 ?_
      exact v_aret dX0_lineAt_247 rfl (Or.inl ⟨_, rfl⟩) ⟨_, rfl, rfl, hw⟩
    · have hw := hw_185 c_183
      refine v_aload_n (q := 0) dX0_lineAt_226 rfl rfl ?_
      obtain ⟨fs_186, r_189, e_187, e_188, hw⟩ := hw
      refine v_get in_X0 (ci := 0) rfl 1 (Nat.le_of_ble_eq_true rfl) q319 rfl dX0_lineAt_227 e_187 e_188 ?_
      obtain ⟨a_190, ea_190, hw⟩ := hw
      subst ea_190
      obtain ⟨fs_191, r_194, e_192, e_193, hw⟩ := hw
      refine v_getN in_X1 (ci := 1) rfl 6 (Nat.le_of_ble_eq_true rfl) q232 rfl dX0_lineAt_230 e_192 e_193 ?_
      refine v_iload_n (q := 2) dX0_lineAt_233 rfl rfl ?_
      obtain ⟨a_195, ea_195, hw⟩ := hw
      subst ea_195
      obtain ⟨fs_204, e_205, hw⟩ := hw
      refine v_callV q577 q578 q579 q108 q580 (ci := 2) rfl e_205 n_J2_get ⟨Nat.le_of_ble_eq_true rfl, Nat.le_of_ble_eq_true rfl⟩ [.int x2] [] (met_J2_get hw) rfl (Nat.zero_le _) ⟨Nat.le_refl _, Nat.le_refl _⟩ dX0_lineAt_234 rfl (v_kq (fun r_196 h1 hv => ?_))
      clear hw
      obtain ⟨e9, hw⟩ := hv
      refine v_heap e9 ?_
      clear e9
      obtain ⟨a_197, ea_197, hw⟩ := hw
      subst ea_197
      obtain ⟨fs_198, e_199, hw⟩ := hw
      refine v_cast (ci := 22) rfl q612 dX0_lineAt_237 e_199 ?_
      obtain ⟨fs_200, r_203, e_201, e_202, hw⟩ := hw
      refine v_getN in_X22 (ci := 22) rfl 0 (Nat.le_of_ble_eq_true rfl) q1216 rfl dX0_lineAt_240 e_201 e_202 ?_
      refine v_goto (tgt := 247) dX0_lineAt_243 (by decide) ?_
      exact v_aret dX0_lineAt_247 rfl (Or.inl ⟨_, rfl⟩) ⟨_, rfl, rfl, hw⟩
  have hw := hw_169 c_166
  obtain ⟨hw_210, hw_211⟩ := hw
  by_cases c_208 : x1 = (nI 4)
  · have hw := hw_210 c_208
    refine v_tswIn (off := 247) (tgt := 248) dX0_lineAt_1 (by rw [c_208]; decide) (by rw [c_208]; decide) (by rw [c_208]; rfl) (by decide) ?_
    refine v_iload_n (q := 2) dX0_lineAt_248 rfl rfl ?_
    refine v_i2l dX0_lineAt_249 ?_
    refine v_lconst (v := lN 0) dX0_lineAt_250 rfl ?_
    refine v_aload_n (q := 0) dX0_lineAt_251 rfl rfl ?_
    obtain ⟨fs_212, r_215, e_213, e_214, hw⟩ := hw
    refine v_get in_X0 (ci := 0) rfl 1 (Nat.le_of_ble_eq_true rfl) q319 rfl dX0_lineAt_252 e_213 e_214 ?_
    obtain ⟨a_216, ea_216, hw⟩ := hw
    subst ea_216
    obtain ⟨fs_217, r_220, e_218, e_219, hw⟩ := hw
    refine v_getN in_X1 (ci := 1) rfl 6 (Nat.le_of_ble_eq_true rfl) q232 rfl dX0_lineAt_255 e_218 e_219 ?_
    obtain ⟨a_221, ea_221, hw⟩ := hw
    subst ea_221
    obtain ⟨fs_248, e_249, hw⟩ := hw
    refine v_callV q413 q414 q415 q108 q416 (ci := 2) rfl e_249 n_J2_size ⟨Nat.le_of_ble_eq_true rfl, Nat.le_of_ble_eq_true rfl⟩ [] [.long (lN 0), .long ((x2).toInt64)] (met_J2_size hw) rfl (Nat.le_of_ble_eq_true rfl) ⟨Nat.le_refl _, Nat.le_refl _⟩ dX0_lineAt_258 rfl (v_ki (fun z_222 h1 hv => ?_))
    clear hw
    obtain ⟨e9, hw⟩ := hv
    refine v_heap e9 ?_
    clear e9
    refine v_iconst dX0_lineAt_261 ic_1 ?_
    refine v_isub dX0_lineAt_262 ?_
    refine v_i2l dX0_lineAt_263 ?_
    refine v_callS q393 q394 q104 q395 n_X0_in ⟨Nat.le_of_ble_eq_true rfl, Nat.le_of_ble_eq_true rfl⟩ [.long ((x2).toInt64), .long (lN 0), .long (((z_222 - (nI 1))).toInt64)] [] (met_X0_in hw) rfl (Nat.zero_le _) ⟨Nat.le_refl _, Nat.le_refl _⟩ dX0_lineAt_264 rfl (v_ki (fun z_223 h1 hv => ?_))
    clear hw
    obtain ⟨e9, hw⟩ := hv
    refine v_heap e9 ?_
    clear e9
    obtain ⟨hw_226, hw_227⟩ := hw
    refine v_if_eq (tgt := 290) dX0_lineAt_267 (by decide) (fun c_224 => ?_) (fun c_225 => ?_)
    · have hw := hw_226 c_224
      refine v_null dX0_lineAt_290 ?_
      exact v_aret dX0_lineAt_291 rfl (Or.inl ⟨_, rfl⟩) ⟨_, rfl, rfl, hw⟩
    · have hw := hw_227 c_225
      refine v_aload_n (q := 0) dX0_lineAt_270 rfl rfl ?_
      obtain ⟨fs_228, r_231, e_229, e_230, hw⟩ := hw
      refine v_get in_X0 (ci := 0) rfl 1 (Nat.le_of_ble_eq_true rfl) q319 rfl dX0_lineAt_271 e_229 e_230 ?_
      obtain ⟨a_232, ea_232, hw⟩ := hw
      subst ea_232
      obtain ⟨fs_233, r_236, e_234, e_235, hw⟩ := hw
      refine v_getN in_X1 (ci := 1) rfl 6 (Nat.le_of_ble_eq_true rfl) q232 rfl dX0_lineAt_274 e_234 e_235 ?_
      refine v_iload_n (q := 2) dX0_lineAt_277 rfl rfl ?_
      obtain ⟨a_237, ea_237, hw⟩ := hw
      subst ea_237
      obtain ⟨fs_246, e_247, hw⟩ := hw
      refine v_callV q577 q578 q579 q108 q580 (ci := 2) rfl e_247 n_J2_get ⟨Nat.le_of_ble_eq_true rfl, Nat.le_of_ble_eq_true rfl⟩ [.int x2] [] (met_J2_get hw) rfl (Nat.zero_le _) ⟨Nat.le_refl _, Nat.le_refl _⟩ dX0_lineAt_278 rfl (v_kq (fun r_238 h1 hv => ?_))
      clear hw
      obtain ⟨e9, hw⟩ := hv
      refine v_heap e9 ?_
      clear e9
      obtain ⟨a_239, ea_239, hw⟩ := hw
      subst ea_239
      obtain ⟨fs_240, e_241, hw⟩ := hw
      refine v_cast (ci := 22) rfl q612 dX0_lineAt_281 e_241 ?_
      obtain ⟨fs_242, r_245, e_243, e_244, hw⟩ := hw
      refine v_getN in_X22 (ci := 22) rfl 1 (Nat.le_of_ble_eq_true rfl) q1218 rfl dX0_lineAt_284 e_243 e_244 ?_
      refine v_goto (tgt := 291) dX0_lineAt_287 (by decide) ?_
      exact v_aret dX0_lineAt_291 rfl (Or.inl ⟨_, rfl⟩) ⟨_, rfl, rfl, hw⟩
  have hw := hw_211 c_208
  refine v_tswOut (tgt := 292) dX0_lineAt_1 (by have := v_swn 0 c_1 (by decide); have := v_swn 1 c_68 (by decide); have := v_swn 2 c_135 (by decide); have := v_swn 3 c_166 (by decide); have := v_swn 4 c_208 (by decide); omega) (by decide) ?_
  refine v_null dX0_lineAt_292 ?_
  exact v_aret dX0_lineAt_293 rfl (Or.inl ⟨_, rfl⟩) ⟨_, rfl, rfl, hw⟩
theorem met_X0_lineAt {post : (Option Nat) → Prop}   {b0 : Nat} {x1 : Int32} {x2 : Int32} {x3 : Int32} {h : AH}  (hw : w_X0_lineAt post  b0 x1 x2 x3 h) : Mt l E yX0_lineAt (ws_ yX0_lineAt cX0_lineAt 4 (some (.object "NobodysBard$Phrase"))) r_X0_lineAt [va_rf (some b0), .int x1, .int x2, .int x3] h (vpq (fun (r : Option Nat) (h' : AH) => h' = h ∧ post r)) := v_entry (by decide +kernel) (Nat.le_of_ble_eq_true rfl) rfl (fun _ => e_X0_lineAt hw)
/-! X8_told -/
abbrev r_X8_told : Room := { frames := 0, cells := 0, slots := 0, locals := 0 }
theorem n_X8_told : vdn yX8_told 0 := ⟨by decide +kernel, by decide +kernel, by decide +kernel⟩
def w_X8_told_32 (post : (Int64) → Prop) (k4 : (Int64) → (Int32) → Prop) (b0 : Nat) (h : AH) (x3 : Int32) (s0 : Int32) (s1 : Int64) : Prop :=
 (∀ y_1 : Int64, y_1 = (s1 ||| ((s0).toInt64)) → (∀ z_2 : Int32, z_2 = x3 + (nI 1) → (k4 y_1 z_2)))
def w_X8_told_4 (post : (Int64) → Prop) (b0 : Nat) (h : AH) : Nat → (Int64) → (Int32) → Prop
 | 0, _, _ => False
 | n0 + 1, x1, x3 =>
 (((nI 8) ≤ x3 → (post x1)) ∧ (¬ (nI 8) ≤ x3 → (∃ (fs_7 : List Value) (z_10 : Int32), h b0 = some (.inr (9, fs_7)) ∧ fs_7[1]? = some (.int z_10) ∧ ((z_10 ≤ x3 → (w_X8_told_32 post (fun (q0 : Int64) (q1 : Int32) => w_X8_told_4 post b0 h n0 q0 q1) b0 h x3 (nI 0) (x1 <<< (((nI 8)).toInt64 &&& 63)))) ∧ (¬ z_10 ≤ x3 → (∃ (fs_15 : List Value) (r_18 : Option Nat), h b0 = some (.inr (9, fs_15)) ∧ fs_15[0]? = some (va_rf r_18) ∧ (∃ a_19 : Nat, r_18 = some a_19 ∧ (∃ (N_20 : Nat) (g_21 : Nat → Int32), h a_19 = some (.inl (0, N_20, .inl g_21)) ∧ vp_in x3 N_20 ∧ (w_X8_told_32 post (fun (q0 : Int64) (q1 : Int32) => w_X8_told_4 post b0 h n0 q0 q1) b0 h x3 (g_21 (x3).toNatClampNeg) (x1 <<< (((nI 8)).toInt64 &&& 63)))))))))))
def w_X8_told (post : (Int64) → Prop) (b0 : Nat) (h : AH) : Prop :=
 (∃ n1 : Nat, (w_X8_told_4 post b0 h n1 (lN 0) (nI 0)))
theorem b_X8_told_32 {post : (Int64) → Prop}   {b0 : Nat} {h : AH} {k4 : (Int64) → (Int32) → Prop}  (hk4 : ∀ (x1 : Int64) (x3 : Int32), k4 x1 x3 → VV l E X cX8_told RX8 "told" 4 r_X8_told (some .long) (vpl (fun (r : Int64) (h' : AH) => h' = h ∧ post r)) h 0 0 4 [(0, va_rf (some b0)), (1, .long x1), (3, .int x3)] []) (x3 : Int32) (s0 : Int32) (s1 : Int64) (hw : w_X8_told_32 post k4 b0 h x3 s0 s1) : VV l E X cX8_told RX8 "told" 4 r_X8_told (some .long) (vpl (fun (r : Int64) (h' : AH) => h' = h ∧ post r)) h 0 0 32 [(0, va_rf (some b0)), (3, .int x3)] [.int s0, .long s1] := by
  refine v_i2l dX8_told_32 ?_
  refine v_lor dX8_told_33 ?_
  refine v_topl (fun y_1 e_1 => ?_)
  replace hw := hw y_1 e_1
  refine v_lstore_n (lv1 := [(1, .long y_1), (0, va_rf (some b0)), (3, .int x3)]) dX8_told_34 rfl (Nat.le_of_ble_eq_true rfl) rfl ?_
  obtain ⟨z_2, e_2⟩ : ∃ z9 : Int32, z9 = x3 + (nI 1) := ⟨_, rfl⟩
  replace hw := hw z_2 e_2
  refine v_iinc (q := 2) (v := z_2) (lv1 := [(3, .int z_2), (1, .long y_1), (0, va_rf (some b0))]) dX8_told_35 rfl (by rw [e_2, ic_1]) (Nat.le_of_ble_eq_true rfl) rfl ?_
  refine v_goto (tgt := 4) dX8_told_38 (by decide) ?_
  refine v_sub [2, 1, 0] rfl ?_
  exact hk4 y_1 z_2 hw
theorem b_X8_told_4 {post : (Int64) → Prop}   {b0 : Nat} {h : AH}    : ∀ (n0 : Nat) (x1 : Int64) (x3 : Int32), w_X8_told_4 post b0 h n0 x1 x3 → VV l E X cX8_told RX8 "told" 4 r_X8_told (some .long) (vpl (fun (r : Int64) (h' : AH) => h' = h ∧ post r)) h 0 0 4 [(0, va_rf (some b0)), (1, .long x1), (3, .int x3)] [] := by
  intro n0
  induction n0 with
  | zero =>
    intro x1 x3 hw
    exact hw.elim
  | succ n0 ih =>
    intro x1 x3 hw
    refine v_iload_n (q := 2) dX8_told_4 rfl rfl ?_
    refine v_bipush dX8_told_5 bp_8 ?_
    obtain ⟨hw_5, hw_6⟩ := hw
    refine v_icmp_ge (tgt := 41) dX8_told_7 (by decide) (fun c_3 => ?_) (fun c_4 => ?_)
    · have hw := hw_5 c_3
      refine v_lload_n (q := 1) dX8_told_41 rfl rfl ?_
      exact v_lret dX8_told_42 rfl ⟨_, rfl, rfl, hw⟩
    · have hw := hw_6 c_4
      refine v_lload_n (q := 1) dX8_told_10 rfl rfl ?_
      refine v_bipush dX8_told_11 bp_8 ?_
      refine v_lshl dX8_told_13 ?_
      refine v_iload_n (q := 2) dX8_told_14 rfl rfl ?_
      refine v_aload_n (q := 0) dX8_told_15 rfl rfl ?_
      obtain ⟨fs_7, z_10, e_8, e_9, hw⟩ := hw
      refine v_get in_X8 (ci := 9) rfl 1 (Nat.le_of_ble_eq_true rfl) q551 rfl dX8_told_16 e_8 e_9 ?_
      obtain ⟨hw_13, hw_14⟩ := hw
      refine v_icmp_ge (tgt := 31) dX8_told_19 (by decide) (fun c_11 => ?_) (fun c_12 => ?_)
      · have hw := hw_13 c_11
        refine v_iconst dX8_told_31 ic_0 ?_
        refine v_sub [0, 2] rfl ?_
        exact b_X8_told_32 (fun q0 q1 z => ih q0 q1 z) x3 (nI 0) (x1 <<< (((nI 8)).toInt64 &&& 63)) hw
      · have hw := hw_14 c_12
        refine v_aload_n (q := 0) dX8_told_22 rfl rfl ?_
        obtain ⟨fs_15, r_18, e_16, e_17, hw⟩ := hw
        refine v_get in_X8 (ci := 9) rfl 0 (Nat.le_of_ble_eq_true rfl) q545 rfl dX8_told_23 e_16 e_17 ?_
        refine v_iload_n (q := 2) dX8_told_26 rfl rfl ?_
        obtain ⟨a_19, ea_19, hw⟩ := hw
        subst ea_19
        obtain ⟨N_20, g_21, e_22, hi_23, hw⟩ := hw
        refine v_iald dX8_told_27 e_22 hi_23 ?_
        refine v_goto (tgt := 32) dX8_told_28 (by decide) ?_
        refine v_sub [0, 2] rfl ?_
        exact b_X8_told_32 (fun q0 q1 z => ih q0 q1 z) x3 (g_21 (x3).toNatClampNeg) (x1 <<< (((nI 8)).toInt64 &&& 63)) hw
theorem e_X8_told {post : (Int64) → Prop}   {b0 : Nat} {h : AH}  (hw : w_X8_told post  b0 h) : VV l E X cX8_told RX8 "told" 4 r_X8_told (some .long) (vpl (fun (r : Int64) (h' : AH) => h' = h ∧ post r)) h 0 0 0 [(0, va_rf (some b0))] [] := by
  refine v_lconst (v := lN 0) dX8_told_0 rfl ?_
  refine v_lstore_n (lv1 := [(1, .long (lN 0)), (0, va_rf (some b0))]) dX8_told_1 rfl (Nat.le_of_ble_eq_true rfl) rfl ?_
  refine v_iconst dX8_told_2 ic_0 ?_
  refine v_istore_n (lv1 := [(3, .int (nI 0)), (1, .long (lN 0)), (0, va_rf (some b0))]) dX8_told_3 rfl (Nat.le_of_ble_eq_true rfl) rfl ?_
  obtain ⟨n_24, hw⟩ := hw
  refine v_sub [2, 1, 0] rfl ?_
  exact b_X8_told_4 n_24 (lN 0) (nI 0) hw
theorem met_X8_told {post : (Int64) → Prop}   {b0 : Nat} {h : AH}  (hw : w_X8_told post  b0 h) : Mt l E yX8_told (ws_ yX8_told cX8_told 4 (some .long)) r_X8_told [va_rf (some b0)] h (vpl (fun (r : Int64) (h' : AH) => h' = h ∧ post r)) := v_entry (by decide +kernel) (Nat.le_of_ble_eq_true rfl) rfl (fun _ => e_X8_told hw)
/-! X0_words -/
abbrev r_X0_words : Room := { frames := 4, cells := 0, slots := 0, locals := 87 }
theorem n_X0_words : vdn yX0_words 3 := ⟨by decide +kernel, by decide +kernel, by decide +kernel⟩
def w_X0_words (post : (Int64) → (AH) → Prop) (b0 : Nat) (x1 : Int32) (x2 : Int32) (x3 : Int32) (h : AH) : Prop :=
 (∃ fs_14 : List Value, h b0 = some (.inr (0, fs_14)) ∧ (w_X0_lineAt (fun (r_1 : Option Nat) => ((r_1 = none → (∃ fs_9 : List Value, h b0 = some (.inr (0, fs_9)) ∧ (w_X0_refuse (fun (z_7 : Int32) (h_8 : AH) => (post ((z_7).toInt64) h_8)) b0 (-2) h))) ∧ (∀ a_3 : Nat, r_1 = some a_3 → (∃ fs_12 : List Value, h a_3 = some (.inr (9, fs_12)) ∧ (w_X8_told (fun (y_11 : Int64) => (post y_11 h)) a_3 h))))) b0 x1 x2 x3 h))
theorem e_X0_words {post : (Int64) → (AH) → Prop}   {b0 : Nat} {x1 : Int32} {x2 : Int32} {x3 : Int32} {h : AH}  (hw : w_X0_words post  b0 x1 x2 x3 h) : VV l E X cX0_words RX0 "words" 5 r_X0_words (some .long) (vpl (fun (r : Int64) (h' : AH) => post r h')) h 0 0 0 [(0, va_rf (some b0)), (1, .int x1), (2, .int x2), (3, .int x3)] [] := by
  refine v_aload_n (q := 0) dX0_words_0 rfl rfl ?_
  refine v_iload_n (q := 1) dX0_words_1 rfl rfl ?_
  refine v_iload_n (q := 2) dX0_words_2 rfl rfl ?_
  refine v_iload_n (q := 3) dX0_words_3 rfl rfl ?_
  obtain ⟨fs_14, e_15, hw⟩ := hw
  refine v_callV q604 q606 qs6 q104 q607 (ci := 0) rfl e_15 n_X0_lineAt ⟨Nat.le_of_ble_eq_true rfl, Nat.le_of_ble_eq_true rfl⟩ [.int x1, .int x2, .int x3] [] (met_X0_lineAt hw) rfl (Nat.zero_le _) ⟨Nat.le_refl _, Nat.le_refl _⟩ dX0_words_4 rfl (v_kq (fun r_1 h1 hv => ?_))
  clear hw
  obtain ⟨e9, hw⟩ := hv
  refine v_heap e9 ?_
  clear e9
  refine v_astore (lv1 := [(4, va_rf r_1), (0, va_rf (some b0)), (1, .int x1), (2, .int x2), (3, .int x3)]) dX0_words_7 (Nat.le_of_ble_eq_true rfl) rfl ?_
  refine v_aload (q := 0) dX0_words_9 rfl ?_
  obtain ⟨hw_5, hw_6⟩ := hw
  refine v_ifnonnull (tgt := 24) dX0_words_11 (by decide) (fun c_2 => ?_) (fun a_3 c_4 => ?_)
  · have hw := hw_5 c_2
    subst c_2
    refine v_aload_n (q := 1) dX0_words_14 rfl rfl ?_
    refine v_bipush dX0_words_15 bp_m2 ?_
    obtain ⟨fs_9, e_10, hw⟩ := hw
    refine v_callV q396 q398 qs0 q104 q399 (ci := 0) rfl e_10 n_X0_refuse ⟨Nat.le_of_ble_eq_true rfl, Nat.le_of_ble_eq_true rfl⟩ [.int (-2)] [] (met_X0_refuse hw) rfl (Nat.zero_le _) ⟨Nat.le_refl _, Nat.le_refl _⟩ dX0_words_17 rfl (v_ki (fun z_7 h_8 hv => ?_))
    clear hw
    have hw := hv
    clear hv
    refine v_i2l dX0_words_20 ?_
    refine v_goto (tgt := 29) dX0_words_21 (by decide) ?_
    exact v_lret dX0_words_29 rfl ⟨_, rfl, hw⟩
  · have hw := hw_6 a_3 c_4
    subst c_4
    refine v_aload (q := 0) dX0_words_24 rfl ?_
    obtain ⟨fs_12, e_13, hw⟩ := hw
    refine v_callV q613 q614 q615 q119 q616 (ci := 9) rfl e_13 n_X8_told ⟨Nat.le_of_ble_eq_true rfl, Nat.le_of_ble_eq_true rfl⟩ [] [] (met_X8_told hw) rfl (Nat.zero_le _) ⟨Nat.le_refl _, Nat.le_refl _⟩ dX0_words_26 rfl (v_kl (fun y_11 h1 hv => ?_))
    clear hw
    obtain ⟨e9, hw⟩ := hv
    refine v_heap e9 ?_
    clear e9
    exact v_lret dX0_words_29 rfl ⟨_, rfl, hw⟩
theorem met_X0_words {post : (Int64) → (AH) → Prop}   {b0 : Nat} {x1 : Int32} {x2 : Int32} {x3 : Int32} {h : AH}  (hw : w_X0_words post  b0 x1 x2 x3 h) : Mt l E yX0_words (ws_ yX0_words cX0_words 5 (some .long)) r_X0_words [va_rf (some b0), .int x1, .int x2, .int x3] h (vpl (fun (r : Int64) (h' : AH) => post r h')) := v_entry (by decide +kernel) (Nat.le_of_ble_eq_true rfl) rfl (fun _ => e_X0_words hw)
/-! X0_at -/
abbrev r_X0_at : Room := { frames := 0, cells := 0, slots := 0, locals := 0 }
theorem n_X0_at : vdn yX0_at 4 := ⟨by decide +kernel, by decide +kernel, by decide +kernel⟩
def w_X0_at_17 (post : (Int32) → Prop) (b0 : Nat) (x1 : Option Nat) (x2 : Option Nat) (x3 : Int32) (x4 : Int32) (h : AH) : Prop :=
 (post (nI 0))
def w_X0_at (post : (Int32) → Prop) (b0 : Nat) (x1 : Option Nat) (x2 : Option Nat) (x3 : Int32) (x4 : Int32) (h : AH) : Prop :=
 (∃ a_1 : Nat, x1 = some a_1 ∧ (∃ (fs_2 : List Value) (z_5 : Int32), h a_1 = some (.inr (9, fs_2)) ∧ fs_2[1]? = some (.int z_5) ∧ ((z_5 ≤ x3 → (w_X0_at_17 post b0 x1 x2 x3 x4 h)) ∧ (¬ z_5 ≤ x3 → (∃ a_10 : Nat, x2 = some a_10 ∧ (∃ (fs_11 : List Value) (z_14 : Int32), h a_10 = some (.inr (9, fs_11)) ∧ fs_11[1]? = some (.int z_14) ∧ ((x4 < z_14 → (∃ (fs_19 : List Value) (r_22 : Option Nat), h b0 = some (.inr (0, fs_19)) ∧ fs_19[0]? = some (va_rf r_22) ∧ (∃ a_23 : Nat, r_22 = some a_23 ∧ (∃ (N_24 : Nat) (g_25 : Nat → Int32), h a_23 = some (.inl (0, N_24, .inl g_25)) ∧ vp_in (((nI 9) * x3) + x4) N_24 ∧ (post (g_25 ((((nI 9) * x3) + x4)).toNatClampNeg)))))) ∧ (¬ x4 < z_14 → (w_X0_at_17 post b0 x1 x2 x3 x4 h)))))))))
theorem b_X0_at_17 {post : (Int32) → Prop}   {b0 : Nat} {x1 : Option Nat} {x2 : Option Nat} {x3 : Int32} {x4 : Int32} {h : AH}     (hw : w_X0_at_17 post b0 x1 x2 x3 x4 h) : VV l E X cX0_at RX0 "at" 5 r_X0_at (some .int) (vpi (fun (r : Int32) (h' : AH) => h' = h ∧ post r)) h 0 0 17 [(0, va_rf (some b0)), (1, va_rf x1), (2, va_rf x2), (3, .int x3), (4, .int x4)] [] := by
  refine v_iconst dX0_at_17 ic_0 ?_
  refine v_goto (tgt := 33) dX0_at_18 (by decide) ?_
  exact v_iret dX0_at_33 rfl ⟨_, rfl, rfl, hw⟩
theorem e_X0_at {post : (Int32) → Prop}   {b0 : Nat} {x1 : Option Nat} {x2 : Option Nat} {x3 : Int32} {x4 : Int32} {h : AH}  (hw : w_X0_at post  b0 x1 x2 x3 x4 h) : VV l E X cX0_at RX0 "at" 5 r_X0_at (some .int) (vpi (fun (r : Int32) (h' : AH) => h' = h ∧ post r)) h 0 0 0 [(0, va_rf (some b0)), (1, va_rf x1), (2, va_rf x2), (3, .int x3), (4, .int x4)] [] := by
  refine v_iload_n (q := 3) dX0_at_0 rfl rfl ?_
  refine v_aload_n (q := 1) dX0_at_1 rfl rfl ?_
  obtain ⟨a_1, ea_1, hw⟩ := hw
  subst ea_1
  obtain ⟨fs_2, z_5, e_3, e_4, hw⟩ := hw
  refine v_getN in_X8 (ci := 9) rfl 1 (Nat.le_of_ble_eq_true rfl) q548 rfl dX0_at_2 e_3 e_4 ?_
  obtain ⟨hw_8, hw_9⟩ := hw
  refine v_icmp_ge (tgt := 17) dX0_at_5 (by decide) (fun c_6 => ?_) (fun c_7 => ?_)
  · have hw := hw_8 c_6
    refine v_sub [0, 1, 2, 3, 4] rfl ?_
    exact b_X0_at_17  hw
  · have hw := hw_9 c_7
    refine v_iload (q := 4) dX0_at_8 rfl ?_
    refine v_aload_n (q := 2) dX0_at_10 rfl rfl ?_
    obtain ⟨a_10, ea_10, hw⟩ := hw
    subst ea_10
    obtain ⟨fs_11, z_14, e_12, e_13, hw⟩ := hw
    refine v_getN in_X8 (ci := 9) rfl 1 (Nat.le_of_ble_eq_true rfl) q548 rfl dX0_at_11 e_12 e_13 ?_
    obtain ⟨hw_17, hw_18⟩ := hw
    refine v_icmp_lt (tgt := 21) dX0_at_14 (by decide) (fun c_15 => ?_) (fun c_16 => ?_)
    · have hw := hw_17 c_15
      refine v_aload_n (q := 0) dX0_at_21 rfl rfl ?_
      obtain ⟨fs_19, r_22, e_20, e_21, hw⟩ := hw
      refine v_get in_X0 (ci := 0) rfl 0 (Nat.le_of_ble_eq_true rfl) q318 rfl dX0_at_22 e_20 e_21 ?_
      refine v_bipush dX0_at_25 bp_9 ?_
      refine v_iload_n (q := 3) dX0_at_27 rfl rfl ?_
      refine v_imul dX0_at_28 ?_
      refine v_iload (q := 4) dX0_at_29 rfl ?_
      refine v_iadd dX0_at_31 ?_
      obtain ⟨a_23, ea_23, hw⟩ := hw
      subst ea_23
      obtain ⟨N_24, g_25, e_26, hi_27, hw⟩ := hw
      refine v_iald dX0_at_32 e_26 hi_27 ?_
      exact v_iret dX0_at_33 rfl ⟨_, rfl, rfl, hw⟩
    · have hw := hw_18 c_16
      refine v_sub [0, 1, 2, 3, 4] rfl ?_
      exact b_X0_at_17  hw
theorem met_X0_at {post : (Int32) → Prop}   {b0 : Nat} {x1 : Option Nat} {x2 : Option Nat} {x3 : Int32} {x4 : Int32} {h : AH}  (hw : w_X0_at post  b0 x1 x2 x3 x4 h) : Mt l E yX0_at (ws_ yX0_at cX0_at 5 (some .int)) r_X0_at [va_rf (some b0), va_rf x1, va_rf x2, .int x3, .int x4] h (vpi (fun (r : Int32) (h' : AH) => h' = h ∧ post r)) := v_entry (by decide +kernel) (by cases x1 <;> cases x2 <;> exact (Nat.le_of_ble_eq_true rfl)) (by cases x1 <;> cases x2 <;> exact rfl) (fun _ => e_X0_at hw)
/-! X0_likeness -/
abbrev r_X0_likeness : Room := { frames := 1, cells := 0, slots := 0, locals := 25 }
theorem n_X0_likeness : vdn yX0_likeness 2 := ⟨by decide +kernel, by decide +kernel, by decide +kernel⟩
def w_X0_likeness_68 (post : (Int32) → (AH) → Prop) (k7 : (Int32) → (AH) → Prop) (k19 : (Int32) → (Int32) → (AH) → Prop) (b0 : Nat) (x1 : Option Nat) (x2 : Option Nat) (x3 : Int32) (x4 : Int32) (x5 : Int32) (s0 : Int32) (h : AH) : Prop :=
 (∃ (fs_1 : List Value) (r_4 : Option Nat), h b0 = some (.inr (0, fs_1)) ∧ fs_1[0]? = some (va_rf r_4) ∧ (∃ fs_16 : List Value, h b0 = some (.inr (0, fs_16)) ∧ (w_X0_at (fun (z_5 : Int32) => (∃ fs_14 : List Value, h b0 = some (.inr (0, fs_14)) ∧ (w_X0_at (fun (z_6 : Int32) => (∃ a_7 : Nat, r_4 = some a_7 ∧ (∃ (N_8 : Nat) (g_9 : Nat → Int32), h a_7 = some (.inl (0, N_8, .inl g_9)) ∧ vp_in x5 N_8 ∧ ∀ h_12 : AH, h_12 = va_up h a_7 (some (.inl (0, N_8, .inl (upd g_9 (x5).toNatClampNeg (if s0 < (if z_5 < z_6 then z_6 else z_5) then (if z_5 < z_6 then z_6 else z_5) else s0))))) → (∀ z_13 : Int32, z_13 = x4 + (-1) → (k19 x3 z_13 h_12))))) b0 x1 x2 x3 (x4 + (nI 1)) h))) b0 x1 x2 (x3 + (nI 1)) x4 h)))
def w_X0_likeness_19 (post : (Int32) → (AH) → Prop) (k7 : (Int32) → (AH) → Prop) (b0 : Nat) (x1 : Option Nat) (x2 : Option Nat) : Nat → (Int32) → (Int32) → (AH) → Prop
 | 0, _, _, _ => False
 | n0 + 1, x3, x4, h =>
 ((x4 < 0 → (∀ z_22 : Int32, z_22 = x3 + (-1) → (k7 z_22 h))) ∧ (¬ x4 < 0 → (∀ z_23 : Int32, z_23 = (((nI 9) * x3) + x4) → (∃ a_24 : Nat, x1 = some a_24 ∧ (∃ (fs_25 : List Value) (r_28 : Option Nat), h a_24 = some (.inr (9, fs_25)) ∧ fs_25[0]? = some (va_rf r_28) ∧ (∃ a_29 : Nat, r_28 = some a_29 ∧ (∃ (N_30 : Nat) (g_31 : Nat → Int32), h a_29 = some (.inl (0, N_30, .inl g_31)) ∧ vp_in x3 N_30 ∧ (∃ a_34 : Nat, x2 = some a_34 ∧ (∃ (fs_35 : List Value) (r_38 : Option Nat), h a_34 = some (.inr (9, fs_35)) ∧ fs_35[0]? = some (va_rf r_38) ∧ (∃ a_39 : Nat, r_38 = some a_39 ∧ (∃ (N_40 : Nat) (g_41 : Nat → Int32), h a_39 = some (.inl (0, N_40, .inl g_41)) ∧ vp_in x4 N_40 ∧ ((¬ (g_31 (x3).toNatClampNeg) = (g_41 (x4).toNatClampNeg) → (w_X0_likeness_68 post k7 (fun (q0 : Int32) (q1 : Int32) (q2 : AH) => w_X0_likeness_19 post k7 b0 x1 x2 n0 q0 q1 q2) b0 x1 x2 x3 x4 z_23 (nI 0) h)) ∧ ((g_31 (x3).toNatClampNeg) = (g_41 (x4).toNatClampNeg) → (∃ fs_49 : List Value, h b0 = some (.inr (0, fs_49)) ∧ (w_X0_at (fun (z_48 : Int32) => (w_X0_likeness_68 post k7 (fun (q0 : Int32) (q1 : Int32) (q2 : AH) => w_X0_likeness_19 post k7 b0 x1 x2 n0 q0 q1 q2) b0 x1 x2 x3 x4 z_23 ((nI 1) + z_48) h)) b0 (some a_24) (some a_34) (x3 + (nI 1)) (x4 + (nI 1)) h)))))))))))))))
def w_X0_likeness_7 (post : (Int32) → (AH) → Prop) (b0 : Nat) (x1 : Option Nat) (x2 : Option Nat) : Nat → (Int32) → (AH) → Prop
 | 0, _, _ => False
 | n0 + 1, x3, h =>
 ((x3 < 0 → (∃ fs_67 : List Value, h b0 = some (.inr (0, fs_67)) ∧ (w_X0_at (fun (z_55 : Int32) => (∃ a_56 : Nat, x1 = some a_56 ∧ (∃ (fs_57 : List Value) (z_60 : Int32), h a_56 = some (.inr (9, fs_57)) ∧ fs_57[1]? = some (.int z_60) ∧ (∃ a_61 : Nat, x2 = some a_61 ∧ (∃ (fs_62 : List Value) (z_65 : Int32), h a_61 = some (.inr (9, fs_62)) ∧ fs_62[1]? = some (.int z_65) ∧ (¬ (if z_60 < z_65 then z_65 else z_60) = 0 ∧ (post (((nI 100) * z_55) / (if z_60 < z_65 then z_65 else z_60)) h))))))) b0 x1 x2 (nI 0) (nI 0) h))) ∧ (¬ x3 < 0 → (∃ a_69 : Nat, x2 = some a_69 ∧ (∃ (fs_70 : List Value) (z_73 : Int32), h a_69 = some (.inr (9, fs_70)) ∧ fs_70[1]? = some (.int z_73) ∧ (∀ z_74 : Int32, z_74 = (z_73 - (nI 1)) → (∃ n1 : Nat, (w_X0_likeness_19 post (fun (q0 : Int32) (q1 : AH) => w_X0_likeness_7 post b0 x1 x2 n0 q0 q1) b0 x1 x2 n1 x3 z_74 h)))))))
def w_X0_likeness (post : (Int32) → (AH) → Prop) (b0 : Nat) (x1 : Option Nat) (x2 : Option Nat) (h : AH) : Prop :=
 (∃ a_76 : Nat, x1 = some a_76 ∧ (∃ (fs_77 : List Value) (z_80 : Int32), h a_76 = some (.inr (9, fs_77)) ∧ fs_77[1]? = some (.int z_80) ∧ (∀ z_81 : Int32, z_81 = (z_80 - (nI 1)) → (∃ n1 : Nat, (w_X0_likeness_7 post b0 x1 x2 n1 z_81 h)))))
theorem b_X0_likeness_68 {post : (Int32) → (AH) → Prop}   {b0 : Nat} {x1 : Option Nat} {x2 : Option Nat} {k7 : (Int32) → (AH) → Prop} {k19 : (Int32) → (Int32) → (AH) → Prop}  (hk7 : ∀ (x3 : Int32) (h : AH), k7 x3 h → VV l E X cX0_likeness RX0 "likeness" 7 r_X0_likeness (some .int) (vpi (fun (r : Int32) (h' : AH) => post r h')) h 0 0 7 [(0, va_rf (some b0)), (1, va_rf x1), (2, va_rf x2), (3, .int x3)] []) (hk19 : ∀ (x3 : Int32) (x4 : Int32) (h : AH), k19 x3 x4 h → VV l E X cX0_likeness RX0 "likeness" 7 r_X0_likeness (some .int) (vpi (fun (r : Int32) (h' : AH) => post r h')) h 0 0 19 [(0, va_rf (some b0)), (1, va_rf x1), (2, va_rf x2), (3, .int x3), (4, .int x4)] []) (x3 : Int32) (x4 : Int32) (x5 : Int32) (s0 : Int32) (h : AH) (hw : w_X0_likeness_68 post k7 k19 b0 x1 x2 x3 x4 x5 s0 h) : VV l E X cX0_likeness RX0 "likeness" 7 r_X0_likeness (some .int) (vpi (fun (r : Int32) (h' : AH) => post r h')) h 0 0 68 [(0, va_rf (some b0)), (1, va_rf x1), (2, va_rf x2), (3, .int x3), (4, .int x4), (5, .int x5)] [.int s0] := by
  refine v_istore (lv1 := [(6, .int s0), (0, va_rf (some b0)), (1, va_rf x1), (2, va_rf x2), (3, .int x3), (4, .int x4), (5, .int x5)]) dX0_likeness_68 (Nat.le_of_ble_eq_true rfl) rfl ?_
  refine v_aload_n (q := 1) dX0_likeness_70 rfl rfl ?_
  obtain ⟨fs_1, r_4, e_2, e_3, hw⟩ := hw
  refine v_get in_X0 (ci := 0) rfl 0 (Nat.le_of_ble_eq_true rfl) q318 rfl dX0_likeness_71 e_2 e_3 ?_
  refine v_iload (q := 6) dX0_likeness_74 rfl ?_
  refine v_iload (q := 0) dX0_likeness_76 rfl ?_
  refine v_aload_n (q := 1) dX0_likeness_78 rfl rfl ?_
  refine v_aload_n (q := 2) dX0_likeness_79 rfl rfl ?_
  refine v_aload_n (q := 3) dX0_likeness_80 rfl rfl ?_
  refine v_iload_n (q := 4) dX0_likeness_81 rfl rfl ?_
  refine v_iconst dX0_likeness_82 ic_1 ?_
  refine v_iadd dX0_likeness_83 ?_
  refine v_iload (q := 5) dX0_likeness_84 rfl ?_
  obtain ⟨fs_16, e_17, hw⟩ := hw
  refine v_callV q625 q627 qs9 q104 q628 (ci := 0) rfl e_17 n_X0_at ⟨Nat.le_of_ble_eq_true rfl, Nat.le_of_ble_eq_true rfl⟩ [va_rf x1, va_rf x2, .int (x3 + (nI 1)), .int x4] [.int s0, .int x5, va_rf r_4] (met_X0_at hw) rfl (by simp only [List.map_cons, List.map_nil, List.sum_cons, List.sum_nil, v_rf1, v_cI, v_cJ]; decide) ⟨Nat.le_refl _, Nat.le_refl _⟩ dX0_likeness_86 rfl (v_ki (fun z_5 h1 hv => ?_))
  clear hw
  obtain ⟨e9, hw⟩ := hv
  refine v_heap e9 ?_
  clear e9
  refine v_aload_n (q := 1) dX0_likeness_89 rfl rfl ?_
  refine v_aload_n (q := 2) dX0_likeness_90 rfl rfl ?_
  refine v_aload_n (q := 3) dX0_likeness_91 rfl rfl ?_
  refine v_iload_n (q := 4) dX0_likeness_92 rfl rfl ?_
  refine v_iload (q := 5) dX0_likeness_93 rfl ?_
  refine v_iconst dX0_likeness_95 ic_1 ?_
  refine v_iadd dX0_likeness_96 ?_
  obtain ⟨fs_14, e_15, hw⟩ := hw
  refine v_callV q625 q627 qs9 q104 q628 (ci := 0) rfl e_15 n_X0_at ⟨Nat.le_of_ble_eq_true rfl, Nat.le_of_ble_eq_true rfl⟩ [va_rf x1, va_rf x2, .int x3, .int (x4 + (nI 1))] [.int z_5, .int s0, .int x5, va_rf r_4] (met_X0_at hw) rfl (by simp only [List.map_cons, List.map_nil, List.sum_cons, List.sum_nil, v_rf1, v_cI, v_cJ]; decide) ⟨Nat.le_refl _, Nat.le_refl _⟩ dX0_likeness_97 rfl (v_ki (fun z_6 h1 hv => ?_))
  clear hw
  obtain ⟨e9, hw⟩ := hv
  refine v_heap e9 ?_
  clear e9
  refine v_mmax q629 q467 q116 q468 (by simp only [List.map_cons, List.map_nil, List.sum_cons, List.sum_nil, v_rf1, v_cI, v_cJ]; decide) (Nat.le_of_ble_eq_true rfl) (Nat.le_of_ble_eq_true rfl) dX0_likeness_100 ?_
  refine v_mmax q629 q467 q116 q468 (by simp only [List.map_cons, List.map_nil, List.sum_cons, List.sum_nil, v_rf1, v_cI, v_cJ]; decide) (Nat.le_of_ble_eq_true rfl) (Nat.le_of_ble_eq_true rfl) dX0_likeness_103 ?_
  obtain ⟨a_7, ea_7, hw⟩ := hw
  subst ea_7
  obtain ⟨N_8, g_9, e_10, hi_11, hw⟩ := hw
  obtain ⟨h_12, eh_12⟩ : ∃ z9 : AH, z9 = va_up h a_7 (some (.inl (0, N_8, .inl (upd g_9 (x5).toNatClampNeg (if s0 < (if z_5 < z_6 then z_6 else z_5) then (if z_5 < z_6 then z_6 else z_5) else s0))))) := ⟨_, rfl⟩
  replace hw := hw h_12 eh_12
  refine v_iast dX0_likeness_106 e_10 hi_11 ?_
  rw [← eh_12]
  obtain ⟨z_13, e_13⟩ : ∃ z9 : Int32, z9 = x4 + (-1) := ⟨_, rfl⟩
  replace hw := hw z_13 e_13
  refine v_iinc (q := 5) (v := z_13) (lv1 := [(4, .int z_13), (6, .int s0), (0, va_rf (some b0)), (1, va_rf x1), (2, va_rf x2), (3, .int x3), (5, .int x5)]) dX0_likeness_107 rfl (by rw [e_13, ic_m1]) (Nat.le_of_ble_eq_true rfl) rfl ?_
  refine v_goto (tgt := 19) dX0_likeness_110 (by decide) ?_
  refine v_sub [2, 3, 4, 5, 0] rfl ?_
  exact hk19 x3 z_13 h_12 hw
theorem b_X0_likeness_19 {post : (Int32) → (AH) → Prop}   {b0 : Nat} {x1 : Option Nat} {x2 : Option Nat} {k7 : (Int32) → (AH) → Prop}  (hk7 : ∀ (x3 : Int32) (h : AH), k7 x3 h → VV l E X cX0_likeness RX0 "likeness" 7 r_X0_likeness (some .int) (vpi (fun (r : Int32) (h' : AH) => post r h')) h 0 0 7 [(0, va_rf (some b0)), (1, va_rf x1), (2, va_rf x2), (3, .int x3)] []) : ∀ (n0 : Nat) (x3 : Int32) (x4 : Int32) (h : AH), w_X0_likeness_19 post k7 b0 x1 x2 n0 x3 x4 h → VV l E X cX0_likeness RX0 "likeness" 7 r_X0_likeness (some .int) (vpi (fun (r : Int32) (h' : AH) => post r h')) h 0 0 19 [(0, va_rf (some b0)), (1, va_rf x1), (2, va_rf x2), (3, .int x3), (4, .int x4)] [] := by
  intro n0
  induction n0 with
  | zero =>
    intro x3 x4 h hw
    exact hw.elim
  | succ n0 ih =>
    intro x3 x4 h hw
    refine v_iload (q := 4) dX0_likeness_19 rfl ?_
    obtain ⟨hw_20, hw_21⟩ := hw
    refine v_if_lt (tgt := 113) dX0_likeness_21 (by decide) (fun c_18 => ?_) (fun c_19 => ?_)
    · have hw := hw_20 c_18
      obtain ⟨z_22, e_22⟩ : ∃ z9 : Int32, z9 = x3 + (-1) := ⟨_, rfl⟩
      replace hw := hw z_22 e_22
      refine v_iinc (q := 3) (v := z_22) (lv1 := [(3, .int z_22), (0, va_rf (some b0)), (1, va_rf x1), (2, va_rf x2), (4, .int x4)]) dX0_likeness_113 rfl (by rw [e_22, ic_m1]) (Nat.le_of_ble_eq_true rfl) (by cases x2 <;> rfl) ?_
      refine v_goto (tgt := 7) dX0_likeness_116 (by decide) ?_
      refine v_sub [1, 2, 3, 0] rfl ?_
      exact hk7 z_22 h hw
    · have hw := hw_21 c_19
      refine v_bipush dX0_likeness_24 bp_9 ?_
      refine v_iload_n (q := 3) dX0_likeness_26 rfl rfl ?_
      refine v_imul dX0_likeness_27 ?_
      refine v_iload (q := 4) dX0_likeness_28 rfl ?_
      refine v_iadd dX0_likeness_30 ?_
      refine v_topi (fun z_23 e_23 => ?_)
      replace hw := hw z_23 e_23
      refine v_istore (lv1 := [(5, .int z_23), (0, va_rf (some b0)), (1, va_rf x1), (2, va_rf x2), (3, .int x3), (4, .int x4)]) dX0_likeness_31 (Nat.le_of_ble_eq_true rfl) rfl ?_
      refine v_aload_n (q := 2) dX0_likeness_33 rfl rfl ?_
      obtain ⟨a_24, ea_24, hw⟩ := hw
      subst ea_24
      obtain ⟨fs_25, r_28, e_26, e_27, hw⟩ := hw
      refine v_getN in_X8 (ci := 9) rfl 0 (Nat.le_of_ble_eq_true rfl) q547 rfl dX0_likeness_34 e_26 e_27 ?_
      refine v_iload_n (q := 4) dX0_likeness_37 rfl rfl ?_
      obtain ⟨a_29, ea_29, hw⟩ := hw
      subst ea_29
      obtain ⟨N_30, g_31, e_32, hi_33, hw⟩ := hw
      refine v_iald dX0_likeness_38 e_32 hi_33 ?_
      refine v_aload_n (q := 3) dX0_likeness_39 rfl rfl ?_
      obtain ⟨a_34, ea_34, hw⟩ := hw
      subst ea_34
      obtain ⟨fs_35, r_38, e_36, e_37, hw⟩ := hw
      refine v_getN in_X8 (ci := 9) rfl 0 (Nat.le_of_ble_eq_true rfl) q547 rfl dX0_likeness_40 e_36 e_37 ?_
      refine v_iload (q := 5) dX0_likeness_43 rfl ?_
      obtain ⟨a_39, ea_39, hw⟩ := hw
      subst ea_39
      obtain ⟨N_40, g_41, e_42, hi_43, hw⟩ := hw
      refine v_iald dX0_likeness_45 e_42 hi_43 ?_
      obtain ⟨hw_46, hw_47⟩ := hw
      refine v_icmp_ne (tgt := 67) dX0_likeness_46 (by decide) (fun c_44 => ?_) (fun c_45 => ?_)
      · have hw := hw_46 c_44
        refine v_iconst dX0_likeness_67 ic_0 ?_
        refine v_sub [1, 2, 3, 4, 5, 0] rfl ?_
        exact b_X0_likeness_68 hk7 (fun q0 q1 q2 z => ih q0 q1 q2 z) x3 x4 z_23 (nI 0) h hw
      · have hw := hw_47 c_45
        refine v_iconst dX0_likeness_49 ic_1 ?_
        refine v_aload_n (q := 1) dX0_likeness_50 rfl rfl ?_
        refine v_aload_n (q := 2) dX0_likeness_51 rfl rfl ?_
        refine v_aload_n (q := 3) dX0_likeness_52 rfl rfl ?_
        refine v_iload_n (q := 4) dX0_likeness_53 rfl rfl ?_
        refine v_iconst dX0_likeness_54 ic_1 ?_
        refine v_iadd dX0_likeness_55 ?_
        refine v_iload (q := 5) dX0_likeness_56 rfl ?_
        refine v_iconst dX0_likeness_58 ic_1 ?_
        refine v_iadd dX0_likeness_59 ?_
        obtain ⟨fs_49, e_50, hw⟩ := hw
        refine v_callV q625 q627 qs9 q104 q628 (ci := 0) rfl e_50 n_X0_at ⟨Nat.le_of_ble_eq_true rfl, Nat.le_of_ble_eq_true rfl⟩ [va_rf (some a_24), va_rf (some a_34), .int (x3 + (nI 1)), .int (x4 + (nI 1))] [.int (nI 1)] (met_X0_at hw) rfl (Nat.le_of_ble_eq_true rfl) ⟨Nat.le_refl _, Nat.le_refl _⟩ dX0_likeness_60 rfl (v_ki (fun z_48 h1 hv => ?_))
        clear hw
        obtain ⟨e9, hw⟩ := hv
        refine v_heap e9 ?_
        clear e9
        refine v_iadd dX0_likeness_63 ?_
        refine v_goto (tgt := 68) dX0_likeness_64 (by decide) ?_
        refine v_sub [1, 2, 3, 4, 5, 0] rfl ?_
        exact b_X0_likeness_68 hk7 (fun q0 q1 q2 z => ih q0 q1 q2 z) x3 x4 z_23 ((nI 1) + z_48) h hw
theorem b_X0_likeness_7 {post : (Int32) → (AH) → Prop}   {b0 : Nat} {x1 : Option Nat} {x2 : Option Nat}    : ∀ (n0 : Nat) (x3 : Int32) (h : AH), w_X0_likeness_7 post b0 x1 x2 n0 x3 h → VV l E X cX0_likeness RX0 "likeness" 7 r_X0_likeness (some .int) (vpi (fun (r : Int32) (h' : AH) => post r h')) h 0 0 7 [(0, va_rf (some b0)), (1, va_rf x1), (2, va_rf x2), (3, .int x3)] [] := by
  intro n0
  induction n0 with
  | zero =>
    intro x3 h hw
    exact hw.elim
  | succ n0 ih =>
    intro x3 h hw
    refine v_iload_n (q := 3) dX0_likeness_7 rfl rfl ?_
    obtain ⟨hw_53, hw_54⟩ := hw
    refine v_if_lt (tgt := 119) dX0_likeness_8 (by decide) (fun c_51 => ?_) (fun c_52 => ?_)
    · have hw := hw_53 c_51
      refine v_bipush dX0_likeness_119 bp_100 ?_
      refine v_aload_n (q := 0) dX0_likeness_121 rfl rfl ?_
      refine v_aload_n (q := 1) dX0_likeness_122 rfl rfl ?_
      refine v_aload_n (q := 2) dX0_likeness_123 rfl rfl ?_
      refine v_iconst dX0_likeness_124 ic_0 ?_
      refine v_iconst dX0_likeness_125 ic_0 ?_
      obtain ⟨fs_67, e_68, hw⟩ := hw
      refine v_callV q625 q627 qs9 q104 q628 (ci := 0) rfl e_68 n_X0_at ⟨Nat.le_of_ble_eq_true rfl, Nat.le_of_ble_eq_true rfl⟩ [va_rf x1, va_rf x2, .int (nI 0), .int (nI 0)] [.int (nI 100)] (met_X0_at hw) rfl (Nat.le_of_ble_eq_true rfl) ⟨Nat.le_refl _, Nat.le_refl _⟩ dX0_likeness_126 rfl (v_ki (fun z_55 h1 hv => ?_))
      clear hw
      obtain ⟨e9, hw⟩ := hv
      refine v_heap e9 ?_
      clear e9
      refine v_imul dX0_likeness_129 ?_
      refine v_aload_n (q := 1) dX0_likeness_130 rfl rfl ?_
      obtain ⟨a_56, ea_56, hw⟩ := hw
      subst ea_56
      obtain ⟨fs_57, z_60, e_58, e_59, hw⟩ := hw
      refine v_getN in_X8 (ci := 9) rfl 1 (Nat.le_of_ble_eq_true rfl) q548 rfl dX0_likeness_131 e_58 e_59 ?_
      refine v_aload_n (q := 2) dX0_likeness_134 rfl rfl ?_
      obtain ⟨a_61, ea_61, hw⟩ := hw
      subst ea_61
      obtain ⟨fs_62, z_65, e_63, e_64, hw⟩ := hw
      refine v_getN in_X8 (ci := 9) rfl 1 (Nat.le_of_ble_eq_true rfl) q548 rfl dX0_likeness_135 e_63 e_64 ?_
      refine v_mmax q629 q467 q116 q468 (Nat.le_of_ble_eq_true rfl) (Nat.le_of_ble_eq_true rfl) (Nat.le_of_ble_eq_true rfl) dX0_likeness_138 ?_
      obtain ⟨hz_66, hw⟩ := hw
      refine v_idiv dX0_likeness_141 hz_66 ?_
      exact v_iret dX0_likeness_142 rfl ⟨_, rfl, hw⟩
    · have hw := hw_54 c_52
      refine v_aload_n (q := 2) dX0_likeness_11 rfl rfl ?_
      obtain ⟨a_69, ea_69, hw⟩ := hw
      subst ea_69
      obtain ⟨fs_70, z_73, e_71, e_72, hw⟩ := hw
      refine v_getN in_X8 (ci := 9) rfl 1 (Nat.le_of_ble_eq_true rfl) q548 rfl dX0_likeness_12 e_71 e_72 ?_
      refine v_iconst dX0_likeness_15 ic_1 ?_
      refine v_isub dX0_likeness_16 ?_
      refine v_topi (fun z_74 e_74 => ?_)
      replace hw := hw z_74 e_74
      refine v_istore (lv1 := [(4, .int z_74), (0, va_rf (some b0)), (1, va_rf x1), (2, va_rf (some a_69)), (3, .int x3)]) dX0_likeness_17 (Nat.le_of_ble_eq_true rfl) rfl ?_
      obtain ⟨n_75, hw⟩ := hw
      refine v_sub [1, 2, 3, 4, 0] rfl ?_
      exact b_X0_likeness_19 (fun q0 q1 z => ih q0 q1 z) n_75 x3 z_74 h hw
theorem e_X0_likeness {post : (Int32) → (AH) → Prop}   {b0 : Nat} {x1 : Option Nat} {x2 : Option Nat} {h : AH}  (hw : w_X0_likeness post  b0 x1 x2 h) : VV l E X cX0_likeness RX0 "likeness" 7 r_X0_likeness (some .int) (vpi (fun (r : Int32) (h' : AH) => post r h')) h 0 0 0 [(0, va_rf (some b0)), (1, va_rf x1), (2, va_rf x2)] [] := by
  refine v_aload_n (q := 1) dX0_likeness_0 rfl rfl ?_
  obtain ⟨a_76, ea_76, hw⟩ := hw
  subst ea_76
  obtain ⟨fs_77, z_80, e_78, e_79, hw⟩ := hw
  refine v_getN in_X8 (ci := 9) rfl 1 (Nat.le_of_ble_eq_true rfl) q548 rfl dX0_likeness_1 e_78 e_79 ?_
  refine v_iconst dX0_likeness_4 ic_1 ?_
  refine v_isub dX0_likeness_5 ?_
  refine v_topi (fun z_81 e_81 => ?_)
  replace hw := hw z_81 e_81
  refine v_istore_n (lv1 := [(3, .int z_81), (0, va_rf (some b0)), (1, va_rf (some a_76)), (2, va_rf x2)]) dX0_likeness_6 rfl (Nat.le_of_ble_eq_true rfl) (by cases x2 <;> rfl) ?_
  obtain ⟨n_82, hw⟩ := hw
  refine v_sub [1, 2, 3, 0] rfl ?_
  exact b_X0_likeness_7 n_82 z_81 h hw
theorem met_X0_likeness {post : (Int32) → (AH) → Prop}   {b0 : Nat} {x1 : Option Nat} {x2 : Option Nat} {h : AH}  (hw : w_X0_likeness post  b0 x1 x2 h) : Mt l E yX0_likeness (ws_ yX0_likeness cX0_likeness 7 (some .int)) r_X0_likeness [va_rf (some b0), va_rf x1, va_rf x2] h (vpi (fun (r : Int32) (h' : AH) => post r h')) := v_entry (by decide +kernel) (by cases x1 <;> cases x2 <;> exact (Nat.le_of_ble_eq_true rfl)) (by cases x1 <;> cases x2 <;> exact rfl) (fun _ => e_X0_likeness hw)
/-! X0_like -/
abbrev r_X0_like : Room := { frames := 3, cells := 4, slots := 20, locals := 64 }
theorem n_X0_like : vdn yX0_like 2 := ⟨by decide +kernel, by decide +kernel, by decide +kernel⟩
def w_X0_like_29 (post : (Int32) → (AH) → Prop) (b0 : Nat) (x1 : Int64) (x3 : Int64) (h : AH) (k : Nat) (n : Nat) : Prop :=
 (∃ fs_3 : List Value, h b0 = some (.inr (0, fs_3)) ∧ (w_X0_refuse (fun (z_1 : Int32) (h_2 : AH) => (post z_1 h_2)) b0 (-3) h))
def w_X0_like (post : (Int32) → (AH) → Prop) (b0 : Nat) (x1 : Int64) (x3 : Int64) (h : AH) : Prop :=
 (w_X0_hasWords (fun (z_5 : Int32) => ((z_5 = 0 → (w_X0_like_29 post b0 x1 x3 h 0 0)) ∧ (¬ z_5 = 0 → (w_X0_hasWords (fun (z_10 : Int32) => ((z_10 = 0 → (w_X0_like_29 post b0 x1 x3 h 0 0)) ∧ (¬ z_10 = 0 → (0 + 2 ≤ 4 ∧ 0 + 10 ≤ 20 ∧ (w_X8_of (fun (r_15 : Option Nat) (h_16 : AH) => ((0 + 2) + 2 ≤ 4 ∧ (0 + 10) + 10 ≤ 20 ∧ (w_X8_of (fun (r_17 : Option Nat) (h_18 : AH) => (∃ fs_21 : List Value, h_18 b0 = some (.inr (0, fs_21)) ∧ (w_X0_likeness (fun (z_19 : Int32) (h_20 : AH) => (post z_19 h_20)) b0 r_15 r_17 h_18))) x3 h_16))) x1 h))))) x3)))) x1)
theorem b_X0_like_29 {post : (Int32) → (AH) → Prop}   {b0 : Nat} {x1 : Int64} {x3 : Int64}    (h : AH) (k : Nat) (n : Nat) (hw : w_X0_like_29 post b0 x1 x3 h k n) : VV l E X cX0_like RX0 "like" 5 r_X0_like (some .int) (vpi (fun (r : Int32) (h' : AH) => post r h')) h k n 29 [(0, va_rf (some b0)), (1, .long x1), (3, .long x3)] [] := by
  refine v_aload_n (q := 0) dX0_like_29 rfl rfl ?_
  refine v_bipush dX0_like_30 bp_m3 ?_
  obtain ⟨fs_3, e_4, hw⟩ := hw
  refine v_callV0 q396 q398 qs0 q104 q399 (ci := 0) rfl e_4 n_X0_refuse ⟨Nat.le_of_ble_eq_true rfl, Nat.le_of_ble_eq_true rfl⟩ [.int (-3)] [] (met_X0_refuse hw) rfl (Nat.zero_le _) rfl rfl dX0_like_32 rfl (v_ki (fun z_1 h_2 hv => ?_))
  clear hw
  have hw := hv
  clear hv
  exact v_iret dX0_like_35 rfl ⟨_, rfl, hw⟩
theorem e_X0_like {post : (Int32) → (AH) → Prop}   {b0 : Nat} {x1 : Int64} {x3 : Int64} {h : AH}  (hw : w_X0_like post  b0 x1 x3 h) : VV l E X cX0_like RX0 "like" 5 r_X0_like (some .int) (vpi (fun (r : Int32) (h' : AH) => post r h')) h 0 0 0 [(0, va_rf (some b0)), (1, .long x1), (3, .long x3)] [] := by
  refine v_lload_n (q := 1) dX0_like_0 rfl rfl ?_
  refine v_callS0 q533 q534 q104 q535 n_X0_hasWords ⟨Nat.le_of_ble_eq_true rfl, Nat.le_of_ble_eq_true rfl⟩ [.long x1] [] (met_X0_hasWords hw) rfl (Nat.zero_le _) rfl rfl dX0_like_1 rfl (v_ki (fun z_5 h1 hv => ?_))
  clear hw
  obtain ⟨e9, hw⟩ := hv
  refine v_heap e9 ?_
  clear e9
  obtain ⟨hw_8, hw_9⟩ := hw
  refine v_if_eq (tgt := 29) dX0_like_4 (by decide) (fun c_6 => ?_) (fun c_7 => ?_)
  · have hw := hw_8 c_6
    refine v_sub [0, 1, 2] rfl ?_
    exact b_X0_like_29 h 0 0 hw
  · have hw := hw_9 c_7
    refine v_lload_n (q := 2) dX0_like_7 rfl rfl ?_
    refine v_callS0 q533 q534 q104 q535 n_X0_hasWords ⟨Nat.le_of_ble_eq_true rfl, Nat.le_of_ble_eq_true rfl⟩ [.long x3] [] (met_X0_hasWords hw) rfl (Nat.zero_le _) rfl rfl dX0_like_8 rfl (v_ki (fun z_10 h1 hv => ?_))
    clear hw
    obtain ⟨e9, hw⟩ := hv
    refine v_heap e9 ?_
    clear e9
    obtain ⟨hw_13, hw_14⟩ := hw
    refine v_if_eq (tgt := 29) dX0_like_11 (by decide) (fun c_11 => ?_) (fun c_12 => ?_)
    · have hw := hw_13 c_11
      refine v_sub [0, 1, 2] rfl ?_
      exact b_X0_like_29 h 0 0 hw
    · have hw := hw_14 c_12
      refine v_aload_n (q := 0) dX0_like_14 rfl rfl ?_
      refine v_lload_n (q := 1) dX0_like_15 rfl rfl ?_
      obtain ⟨e_25, e_26, hw⟩ := hw
      refine v_callS q536 q537 q119 q538 n_X8_of ⟨Nat.le_of_ble_eq_true rfl, Nat.le_of_ble_eq_true rfl⟩ [.long x1] [va_rf (some b0)] (met_X8_of hw) rfl (by simp only [List.map_cons, List.map_nil, List.sum_cons, List.sum_nil, v_rf1, v_cI, v_cJ]; decide) ⟨e_25, e_26⟩ dX0_like_16 rfl (v_kq (fun r_15 h_16 hv => ?_))
      clear hw
      have hw := hv
      clear hv
      refine v_lload_n (q := 2) dX0_like_19 rfl rfl ?_
      obtain ⟨e_23, e_24, hw⟩ := hw
      refine v_callS q536 q537 q119 q538 n_X8_of ⟨Nat.le_of_ble_eq_true rfl, Nat.le_of_ble_eq_true rfl⟩ [.long x3] [va_rf r_15, va_rf (some b0)] (met_X8_of hw) rfl (by simp only [List.map_cons, List.map_nil, List.sum_cons, List.sum_nil, v_rf1, v_cI, v_cJ]; decide) ⟨e_23, e_24⟩ dX0_like_20 rfl (v_kq (fun r_17 h_18 hv => ?_))
      clear hw
      have hw := hv
      clear hv
      obtain ⟨fs_21, e_22, hw⟩ := hw
      refine v_callV0 q621 q623 qs8 q104 q624 (ci := 0) rfl e_22 n_X0_likeness ⟨Nat.le_of_ble_eq_true rfl, Nat.le_of_ble_eq_true rfl⟩ [va_rf r_15, va_rf r_17] [] (met_X0_likeness hw) rfl (Nat.zero_le _) rfl rfl dX0_like_23 rfl (v_ki (fun z_19 h_20 hv => ?_))
      clear hw
      have hw := hv
      clear hv
      refine v_goto (tgt := 35) dX0_like_26 (by decide) ?_
      exact v_iret dX0_like_35 rfl ⟨_, rfl, hw⟩
theorem met_X0_like {post : (Int32) → (AH) → Prop}   {b0 : Nat} {x1 : Int64} {x3 : Int64} {h : AH}  (hw : w_X0_like post  b0 x1 x3 h) : Mt l E yX0_like (ws_ yX0_like cX0_like 5 (some .int)) r_X0_like [va_rf (some b0), .long x1, .long x3] h (vpi (fun (r : Int32) (h' : AH) => post r h')) := v_entry (by decide +kernel) (Nat.le_of_ble_eq_true rfl) rfl (fun _ => e_X0_like hw)
/-! X0_bytes -/
abbrev r_X0_bytes : Room := { frames := 0, cells := 0, slots := 0, locals := 0 }
theorem n_X0_bytes : vdn yX0_bytes 1 := ⟨by decide +kernel, by decide +kernel, by decide +kernel⟩
def w_X0_bytes_3 (post : (AH) → Prop) (b0 : Nat) (x1 : Int32) : Nat → (Int32) → (AH) → Prop
 | 0, _, _ => False
 | n0 + 1, x2, h =>
 ((x2 < 0 → (post h)) ∧ (¬ x2 < 0 → (∃ (fs_5 : List Value) (r_8 : Option Nat), h b0 = some (.inr (0, fs_5)) ∧ fs_5[4]? = some (va_rf r_8) ∧ (∃ (fs_9 : List Value) (z_12 : Int32), h b0 = some (.inr (0, fs_9)) ∧ fs_9[5]? = some (.int z_12) ∧ (∃ a_13 : Nat, r_8 = some a_13 ∧ (∃ (N_14 : Nat) (g_15 : Nat → Int32), h a_13 = some (.inl (2, N_14, .inl g_15)) ∧ vp_in z_12 N_14 ∧ ∀ h_18 : AH, h_18 = va_up h a_13 (some (.inl (2, N_14, .inl (upd g_15 (z_12).toNatClampNeg (vp_nar .byte (((x1 >>> (x2 &&& 31))).toInt8.toInt32)))))) → (∃ (fs_19 : List Value) (z_22 : Int32), h_18 b0 = some (.inr (0, fs_19)) ∧ fs_19[5]? = some (.int z_22) ∧ (∃ fs_23 : List Value, h_18 b0 = some (.inr (0, fs_23)) ∧ 5 < fs_23.length ∧ ∀ h_26 : AH, h_26 = va_up h_18 b0 (some (.inr (0, fs_23.set 5 (.int (z_22 + (nI 1)))))) → (∀ z_27 : Int32, z_27 = x2 + (-8) → (w_X0_bytes_3 post b0 x1 n0 z_27 h_26))))))))))
def w_X0_bytes (post : (AH) → Prop) (b0 : Nat) (x1 : Int32) (h : AH) : Prop :=
 (∃ n1 : Nat, (w_X0_bytes_3 post b0 x1 n1 (nI 24) h))
theorem b_X0_bytes_3 {post : (AH) → Prop}   {b0 : Nat} {x1 : Int32}    : ∀ (n0 : Nat) (x2 : Int32) (h : AH), w_X0_bytes_3 post b0 x1 n0 x2 h → VV l E X cX0_bytes RX0 "bytes" 3 r_X0_bytes none (vpv (fun (h' : AH) => post h')) h 0 0 3 [(0, va_rf (some b0)), (1, .int x1), (2, .int x2)] [] := by
  intro n0
  induction n0 with
  | zero =>
    intro x2 h hw
    exact hw.elim
  | succ n0 ih =>
    intro x2 h hw
    refine v_iload_n (q := 2) dX0_bytes_3 rfl rfl ?_
    obtain ⟨hw_3, hw_4⟩ := hw
    refine v_if_lt (tgt := 36) dX0_bytes_4 (by decide) (fun c_1 => ?_) (fun c_2 => ?_)
    · have hw := hw_3 c_1
      exact v_vret dX0_bytes_36 rfl ⟨rfl, hw⟩
    · have hw := hw_4 c_2
      refine v_aload_n (q := 0) dX0_bytes_7 rfl rfl ?_
      obtain ⟨fs_5, r_8, e_6, e_7, hw⟩ := hw
      refine v_get in_X0 (ci := 0) rfl 4 (Nat.le_of_ble_eq_true rfl) q323 rfl dX0_bytes_8 e_6 e_7 ?_
      refine v_aload_n (q := 0) dX0_bytes_11 rfl rfl ?_
      obtain ⟨fs_9, z_12, e_10, e_11, hw⟩ := hw
      refine v_get in_X0 (ci := 0) rfl 5 (Nat.le_of_ble_eq_true rfl) q324 rfl dX0_bytes_12 e_10 e_11 ?_
      refine v_iload_n (q := 1) dX0_bytes_15 rfl rfl ?_
      refine v_iload_n (q := 2) dX0_bytes_16 rfl rfl ?_
      refine v_ishr dX0_bytes_17 ?_
      refine v_i2b dX0_bytes_18 ?_
      obtain ⟨a_13, ea_13, hw⟩ := hw
      subst ea_13
      obtain ⟨N_14, g_15, e_16, hi_17, hw⟩ := hw
      obtain ⟨h_18, eh_18⟩ : ∃ z9 : AH, z9 = va_up h a_13 (some (.inl (2, N_14, .inl (upd g_15 (z_12).toNatClampNeg (vp_nar .byte (((x1 >>> (x2 &&& 31))).toInt8.toInt32)))))) := ⟨_, rfl⟩
      replace hw := hw h_18 eh_18
      refine v_bast dX0_bytes_19 e_16 hi_17 ?_
      rw [← eh_18]
      refine v_aload_n (q := 0) dX0_bytes_20 rfl rfl ?_
      refine v_dup dX0_bytes_21 (v_rf1 _) ?_
      obtain ⟨fs_19, z_22, e_20, e_21, hw⟩ := hw
      refine v_get in_X0 (ci := 0) rfl 5 (Nat.le_of_ble_eq_true rfl) q324 rfl dX0_bytes_22 e_20 e_21 ?_
      refine v_iconst dX0_bytes_25 ic_1 ?_
      refine v_iadd dX0_bytes_26 ?_
      obtain ⟨fs_23, e_24, e_25, hw⟩ := hw
      obtain ⟨h_26, eh_26⟩ : ∃ z9 : AH, z9 = va_up h_18 b0 (some (.inr (0, fs_23.set 5 (.int (z_22 + (nI 1)))))) := ⟨_, rfl⟩
      replace hw := hw h_26 eh_26
      refine v_put in_X0 (ci := 0) rfl 5 (Nat.le_of_ble_eq_true rfl) tyX0 tyX0_ok nmX0 q324 rfl rfl rfl rfl rfl dX0_bytes_27 e_24 e_25 ?_
      rw [← eh_26]
      obtain ⟨z_27, e_27⟩ : ∃ z9 : Int32, z9 = x2 + (-8) := ⟨_, rfl⟩
      replace hw := hw z_27 e_27
      refine v_iinc (q := 2) (v := z_27) (lv1 := [(2, .int z_27), (0, va_rf (some b0)), (1, .int x1)]) dX0_bytes_30 rfl (by rw [e_27, ic_m8]) (Nat.le_of_ble_eq_true rfl) rfl ?_
      refine v_goto (tgt := 3) dX0_bytes_33 (by decide) ?_
      refine v_sub [1, 2, 0] rfl ?_
      exact ih z_27 h_26 hw
theorem e_X0_bytes {post : (AH) → Prop}   {b0 : Nat} {x1 : Int32} {h : AH}  (hw : w_X0_bytes post  b0 x1 h) : VV l E X cX0_bytes RX0 "bytes" 3 r_X0_bytes none (vpv (fun (h' : AH) => post h')) h 0 0 0 [(0, va_rf (some b0)), (1, .int x1)] [] := by
  refine v_bipush dX0_bytes_0 bp_24 ?_
  refine v_istore_n (lv1 := [(2, .int (nI 24)), (0, va_rf (some b0)), (1, .int x1)]) dX0_bytes_2 rfl (Nat.le_of_ble_eq_true rfl) rfl ?_
  obtain ⟨n_28, hw⟩ := hw
  refine v_sub [1, 2, 0] rfl ?_
  exact b_X0_bytes_3 n_28 (nI 24) h hw
theorem met_X0_bytes {post : (AH) → Prop}   {b0 : Nat} {x1 : Int32} {h : AH}  (hw : w_X0_bytes post  b0 x1 h) : Mt l E yX0_bytes (ws_ yX0_bytes cX0_bytes 3 none) r_X0_bytes [va_rf (some b0), .int x1] h (vpv (fun (h' : AH) => post h')) := v_entry (by decide +kernel) (Nat.le_of_ble_eq_true rfl) rfl (fun _ => e_X0_bytes hw)
/-! X0_feed -/
abbrev r_X0_feed : Room := { frames := 1, cells := 0, slots := 0, locals := 22 }
theorem n_X0_feed : vdn yX0_feed 5 := ⟨by decide +kernel, by decide +kernel, by decide +kernel⟩
def w_X0_feed (post : (Int32) → (AH) → Prop) (b0 : Nat) (x1 : Int32) (x2 : Int32) (x3 : Int32) (x4 : Int32) (x5 : Int32) (h : AH) : Prop :=
 (∃ (fs_1 : List Value) (z_4 : Int32), h b0 = some (.inr (0, fs_1)) ∧ fs_1[5]? = some (.int z_4) ∧ (((z_4 + (nI 20)) ≤ (nI 400) → (∃ fs_26 : List Value, h b0 = some (.inr (0, fs_26)) ∧ (w_X0_bytes (fun (h_9 : AH) => (∃ fs_24 : List Value, h_9 b0 = some (.inr (0, fs_24)) ∧ (w_X0_bytes (fun (h_10 : AH) => (∃ fs_22 : List Value, h_10 b0 = some (.inr (0, fs_22)) ∧ (w_X0_bytes (fun (h_11 : AH) => (∃ fs_20 : List Value, h_11 b0 = some (.inr (0, fs_20)) ∧ (w_X0_bytes (fun (h_12 : AH) => (∃ fs_18 : List Value, h_12 b0 = some (.inr (0, fs_18)) ∧ (w_X0_bytes (fun (h_13 : AH) => (∃ (fs_14 : List Value) (z_17 : Int32), h_13 b0 = some (.inr (0, fs_14)) ∧ fs_14[5]? = some (.int z_17) ∧ (post z_17 h_13))) b0 x5 h_12))) b0 x4 h_11))) b0 x3 h_10))) b0 x2 h_9))) b0 x1 h))) ∧ (¬ (z_4 + (nI 20)) ≤ (nI 400) → (∃ fs_30 : List Value, h b0 = some (.inr (0, fs_30)) ∧ (w_X0_refuse (fun (z_28 : Int32) (h_29 : AH) => (post z_28 h_29)) b0 (-4) h)))))
theorem e_X0_feed {post : (Int32) → (AH) → Prop}   {b0 : Nat} {x1 : Int32} {x2 : Int32} {x3 : Int32} {x4 : Int32} {x5 : Int32} {h : AH}  (hw : w_X0_feed post  b0 x1 x2 x3 x4 x5 h) : VV l E X cX0_feed RX0 "feed" 6 r_X0_feed (some .int) (vpi (fun (r : Int32) (h' : AH) => post r h')) h 0 0 0 [(0, va_rf (some b0)), (1, .int x1), (2, .int x2), (3, .int x3), (4, .int x4), (5, .int x5)] [] := by
  refine v_aload_n (q := 0) dX0_feed_0 rfl rfl ?_
  obtain ⟨fs_1, z_4, e_2, e_3, hw⟩ := hw
  refine v_get in_X0 (ci := 0) rfl 5 (Nat.le_of_ble_eq_true rfl) q324 rfl dX0_feed_1 e_2 e_3 ?_
  refine v_bipush dX0_feed_4 bp_20 ?_
  refine v_iadd dX0_feed_6 ?_
  refine v_sipush dX0_feed_7 sp_400 ?_
  obtain ⟨hw_7, hw_8⟩ := hw
  refine v_icmp_le (tgt := 20) dX0_feed_10 (by decide) (fun c_5 => ?_) (fun c_6 => ?_)
  · have hw := hw_7 c_5
    refine v_aload_n (q := 0) dX0_feed_20 rfl rfl ?_
    refine v_iload_n (q := 1) dX0_feed_21 rfl rfl ?_
    obtain ⟨fs_26, e_27, hw⟩ := hw
    refine v_callV q634 q636 qs10 q104 q637 (ci := 0) rfl e_27 n_X0_bytes ⟨Nat.le_of_ble_eq_true rfl, Nat.le_of_ble_eq_true rfl⟩ [.int x1] [] (met_X0_bytes hw) rfl (Nat.zero_le _) ⟨Nat.le_refl _, Nat.le_refl _⟩ dX0_feed_22 rfl (v_kv (fun h_9 hv => ?_))
    clear hw
    have hw := hv
    clear hv
    refine v_aload_n (q := 0) dX0_feed_25 rfl rfl ?_
    refine v_iload_n (q := 2) dX0_feed_26 rfl rfl ?_
    obtain ⟨fs_24, e_25, hw⟩ := hw
    refine v_callV q634 q636 qs10 q104 q637 (ci := 0) rfl e_25 n_X0_bytes ⟨Nat.le_of_ble_eq_true rfl, Nat.le_of_ble_eq_true rfl⟩ [.int x2] [] (met_X0_bytes hw) rfl (Nat.zero_le _) ⟨Nat.le_refl _, Nat.le_refl _⟩ dX0_feed_27 rfl (v_kv (fun h_10 hv => ?_))
    clear hw
    have hw := hv
    clear hv
    refine v_aload_n (q := 0) dX0_feed_30 rfl rfl ?_
    refine v_iload_n (q := 3) dX0_feed_31 rfl rfl ?_
    obtain ⟨fs_22, e_23, hw⟩ := hw
    refine v_callV q634 q636 qs10 q104 q637 (ci := 0) rfl e_23 n_X0_bytes ⟨Nat.le_of_ble_eq_true rfl, Nat.le_of_ble_eq_true rfl⟩ [.int x3] [] (met_X0_bytes hw) rfl (Nat.zero_le _) ⟨Nat.le_refl _, Nat.le_refl _⟩ dX0_feed_32 rfl (v_kv (fun h_11 hv => ?_))
    clear hw
    have hw := hv
    clear hv
    refine v_aload_n (q := 0) dX0_feed_35 rfl rfl ?_
    refine v_iload (q := 4) dX0_feed_36 rfl ?_
    obtain ⟨fs_20, e_21, hw⟩ := hw
    refine v_callV q634 q636 qs10 q104 q637 (ci := 0) rfl e_21 n_X0_bytes ⟨Nat.le_of_ble_eq_true rfl, Nat.le_of_ble_eq_true rfl⟩ [.int x4] [] (met_X0_bytes hw) rfl (Nat.zero_le _) ⟨Nat.le_refl _, Nat.le_refl _⟩ dX0_feed_38 rfl (v_kv (fun h_12 hv => ?_))
    clear hw
    have hw := hv
    clear hv
    refine v_aload_n (q := 0) dX0_feed_41 rfl rfl ?_
    refine v_iload (q := 5) dX0_feed_42 rfl ?_
    obtain ⟨fs_18, e_19, hw⟩ := hw
    refine v_callV q634 q636 qs10 q104 q637 (ci := 0) rfl e_19 n_X0_bytes ⟨Nat.le_of_ble_eq_true rfl, Nat.le_of_ble_eq_true rfl⟩ [.int x5] [] (met_X0_bytes hw) rfl (Nat.zero_le _) ⟨Nat.le_refl _, Nat.le_refl _⟩ dX0_feed_44 rfl (v_kv (fun h_13 hv => ?_))
    clear hw
    have hw := hv
    clear hv
    refine v_aload_n (q := 0) dX0_feed_47 rfl rfl ?_
    obtain ⟨fs_14, z_17, e_15, e_16, hw⟩ := hw
    refine v_get in_X0 (ci := 0) rfl 5 (Nat.le_of_ble_eq_true rfl) q324 rfl dX0_feed_48 e_15 e_16 ?_
    exact v_iret dX0_feed_51 rfl ⟨_, rfl, hw⟩
  · have hw := hw_8 c_6
    refine v_aload_n (q := 0) dX0_feed_13 rfl rfl ?_
    refine v_bipush dX0_feed_14 bp_m4 ?_
    obtain ⟨fs_30, e_31, hw⟩ := hw
    refine v_callV q396 q398 qs0 q104 q399 (ci := 0) rfl e_31 n_X0_refuse ⟨Nat.le_of_ble_eq_true rfl, Nat.le_of_ble_eq_true rfl⟩ [.int (-4)] [] (met_X0_refuse hw) rfl (Nat.zero_le _) ⟨Nat.le_refl _, Nat.le_refl _⟩ dX0_feed_16 rfl (v_ki (fun z_28 h_29 hv => ?_))
    clear hw
    have hw := hv
    clear hv
    exact v_iret dX0_feed_19 rfl ⟨_, rfl, hw⟩
theorem met_X0_feed {post : (Int32) → (AH) → Prop}   {b0 : Nat} {x1 : Int32} {x2 : Int32} {x3 : Int32} {x4 : Int32} {x5 : Int32} {h : AH}  (hw : w_X0_feed post  b0 x1 x2 x3 x4 x5 h) : Mt l E yX0_feed (ws_ yX0_feed cX0_feed 6 (some .int)) r_X0_feed [va_rf (some b0), .int x1, .int x2, .int x3, .int x4, .int x5] h (vpi (fun (r : Int32) (h' : AH) => post r h')) := v_entry (by decide +kernel) (Nat.le_of_ble_eq_true rfl) rfl (fun _ => e_X0_feed hw)
/-! X10_init -/
abbrev r_X10_init : Room := { frames := 4, cells := 5, slots := 300, locals := 81 }
theorem n_X10_init : vdn yX10_init 2 := ⟨by decide +kernel, by decide +kernel, by decide +kernel⟩
def w_X10_init (post : (AH) → Prop) (b0 : Nat) (x1 : Option Nat) (x2 : Int32) (h : AH) : Prop :=
 (∃ fs_1 : List Value, h b0 = some (.inr (11, fs_1)) ∧ 10 < fs_1.length ∧ ∀ h_4 : AH, h_4 = va_up h b0 (some (.inr (11, fs_1.set 10 (va_rf x1)))) → (0 + 1 ≤ 5 ∧ 0 + 3 ≤ 300 ∧ ∀ a_5 : Nat, h_4 a_5 = none → ∀ h_7 : AH, h_7 = va_up h_4 a_5 (some (.inr (2, dfJ2))) → ((0 + 1) + 1 ≤ 5 ∧ (0 + 3) + 2 ≤ 300 ∧ (w_J2_init (fun (h_12 : AH) => (∃ fs_13 : List Value, h_12 b0 = some (.inr (11, fs_13)) ∧ 1 < fs_13.length ∧ ∀ h_16 : AH, h_16 = va_up h_12 b0 (some (.inr (11, fs_13.set 1 (va_rf (some a_5))))) → (((0 + 1) + 1) + 1 ≤ 5 ∧ ((0 + 3) + 2) + 5 ≤ 300 ∧ ∀ a_17 : Nat, h_16 a_17 = none → ∀ h_19 : AH, h_19 = va_up h_16 a_17 (some (.inr (3, dfX2))) → ((((0 + 1) + 1) + 1) + 1 ≤ 5 ∧ (((0 + 3) + 2) + 5) + 256 ≤ 300 ∧ (w_X2_init (fun (h_24 : AH) => (∃ fs_25 : List Value, h_24 b0 = some (.inr (11, fs_25)) ∧ 2 < fs_25.length ∧ ∀ h_28 : AH, h_28 = va_up h_24 b0 (some (.inr (11, fs_25.set 2 (va_rf (some a_17))))) → (∃ fs_29 : List Value, h_28 b0 = some (.inr (11, fs_29)) ∧ 9 < fs_29.length ∧ ∀ h_32 : AH, h_32 = va_up h_28 b0 (some (.inr (11, fs_29.set 9 (.int (-1))))) → (∃ fs_33 : List Value, h_32 b0 = some (.inr (11, fs_33)) ∧ 0 < fs_33.length ∧ ∀ h_36 : AH, h_36 = va_up h_32 b0 (some (.inr (11, fs_33.set 0 (.int x2)))) → (post h_36))))) a_17 h_19))))) a_5 (nI 2) h_7))))
theorem e_X10_init {post : (AH) → Prop}   {b0 : Nat} {x1 : Option Nat} {x2 : Int32} {h : AH}  (hw : w_X10_init post  b0 x1 x2 h) : VV l E X cX10_init RX10 "<init>" 3 r_X10_init none (vpv (fun (h' : AH) => post h')) h 0 0 0 [(0, va_rf (some b0)), (1, va_rf x1), (2, .int x2)] [] := by
  refine v_aload_n (q := 0) dX10_init_0 rfl rfl ?_
  refine v_aload_n (q := 1) dX10_init_1 rfl rfl ?_
  obtain ⟨fs_1, e_2, e_3, hw⟩ := hw
  obtain ⟨h_4, eh_4⟩ : ∃ z9 : AH, z9 = va_up h b0 (some (.inr (11, fs_1.set 10 (va_rf x1)))) := ⟨_, rfl⟩
  replace hw := hw h_4 eh_4
  refine v_putF in_X10 (ci := 11) rfl 10 (Nat.le_of_ble_eq_true rfl) tyX10 tyX10_ok nmX10 q666 rfl rfl rfl rfl rfl (v_rfn _ _).1 (v_rfn _ _).2 dX10_init_2 e_2 e_3 ?_
  rw [← eh_4]
  refine v_aload_n (q := 0) dX10_init_5 rfl rfl ?_
  refine v_objInit q647 q154 q155 (Nat.zero_le _) (Nat.le_of_ble_eq_true rfl) (Nat.le_of_ble_eq_true rfl) dX10_init_6 ?_
  refine v_aload_n (q := 0) dX10_init_9 rfl rfl ?_
  obtain ⟨e_8, e_9, hw⟩ := hw
  refine v_new in_J2 (ci := 2) rfl tyJ2 tyJ2_ok q648 q163 q108 dfJ2_ok e_8 e_9 dX10_init_10 (fun a_5 e_6 => ?_)
  obtain ⟨h_7, eh_7⟩ : ∃ z9 : AH, z9 = va_up h_4 a_5 (some (.inr (2, dfJ2))) := ⟨_, rfl⟩
  replace hw := hw a_5 e_6 h_7 eh_7
  rw [← eh_7]
  refine v_dup dX10_init_13 (v_rf1 _) ?_
  refine v_iconst dX10_init_14 ic_2 ?_
  obtain ⟨e_39, e_40, hw⟩ := hw
  refine v_callI q649 q165 q108 q166 rfl n_J2_init ⟨Nat.le_of_ble_eq_true rfl, Nat.le_of_ble_eq_true rfl⟩ [.int (nI 2)] [va_rf (some a_5), va_rf (some b0)] (met_J2_init hw) rfl (by simp only [List.map_cons, List.map_nil, List.sum_cons, List.sum_nil, v_rf1, v_cI, v_cJ]; decide) ⟨e_39, e_40⟩ dX10_init_15 rfl (v_kv (fun h_12 hv => ?_))
  clear hw
  have hw := hv
  clear hv
  obtain ⟨fs_13, e_14, e_15, hw⟩ := hw
  obtain ⟨h_16, eh_16⟩ : ∃ z9 : AH, z9 = va_up h_12 b0 (some (.inr (11, fs_13.set 1 (va_rf (some a_5))))) := ⟨_, rfl⟩
  replace hw := hw h_16 eh_16
  refine v_putF in_X10 (ci := 11) rfl 1 (Nat.le_of_ble_eq_true rfl) tyX10 tyX10_ok nmX10 q653 rfl rfl rfl rfl rfl (v_rfn _ _).1 (v_rfn _ _).2 dX10_init_18 e_14 e_15 ?_
  rw [← eh_16]
  refine v_aload_n (q := 0) dX10_init_21 rfl rfl ?_
  obtain ⟨e_20, e_21, hw⟩ := hw
  refine v_new in_X2 (ci := 3) rfl tyX2 tyX2_ok q650 q192 q109 dfX2_ok e_20 e_21 dX10_init_22 (fun a_17 e_18 => ?_)
  obtain ⟨h_19, eh_19⟩ : ∃ z9 : AH, z9 = va_up h_16 a_17 (some (.inr (3, dfX2))) := ⟨_, rfl⟩
  replace hw := hw a_17 e_18 h_19 eh_19
  rw [← eh_19]
  refine v_dup dX10_init_25 (v_rf1 _) ?_
  obtain ⟨e_37, e_38, hw⟩ := hw
  refine v_callIN q651 q194 q109 q195 rfl n_X2_init ⟨Nat.le_of_ble_eq_true rfl, Nat.le_of_ble_eq_true rfl⟩ [] [va_rf (some a_17), va_rf (some b0)] (met_X2_init hw) rfl (by simp only [List.map_cons, List.map_nil, List.sum_cons, List.sum_nil, v_rf1, v_cI, v_cJ]; decide) ⟨e_37, e_38⟩ dX10_init_26 rfl (v_kv (fun h_24 hv => ?_))
  clear hw
  have hw := hv
  clear hv
  obtain ⟨fs_25, e_26, e_27, hw⟩ := hw
  obtain ⟨h_28, eh_28⟩ : ∃ z9 : AH, z9 = va_up h_24 b0 (some (.inr (11, fs_25.set 2 (va_rf (some a_17))))) := ⟨_, rfl⟩
  replace hw := hw h_28 eh_28
  refine v_putF in_X10 (ci := 11) rfl 2 (Nat.le_of_ble_eq_true rfl) tyX10 tyX10_ok nmX10 q655 rfl rfl rfl rfl rfl (v_rfn _ _).1 (v_rfn _ _).2 dX10_init_29 e_26 e_27 ?_
  rw [← eh_28]
  refine v_aload_n (q := 0) dX10_init_32 rfl rfl ?_
  refine v_iconst dX10_init_33 ic_m1 ?_
  obtain ⟨fs_29, e_30, e_31, hw⟩ := hw
  obtain ⟨h_32, eh_32⟩ : ∃ z9 : AH, z9 = va_up h_28 b0 (some (.inr (11, fs_29.set 9 (.int (-1))))) := ⟨_, rfl⟩
  replace hw := hw h_32 eh_32
  refine v_put in_X10 (ci := 11) rfl 9 (Nat.le_of_ble_eq_true rfl) tyX10 tyX10_ok nmX10 q664 rfl rfl rfl rfl rfl dX10_init_34 e_30 e_31 ?_
  rw [← eh_32]
  refine v_aload_n (q := 0) dX10_init_37 rfl rfl ?_
  refine v_iload_n (q := 2) dX10_init_38 rfl rfl ?_
  obtain ⟨fs_33, e_34, e_35, hw⟩ := hw
  obtain ⟨h_36, eh_36⟩ : ∃ z9 : AH, z9 = va_up h_32 b0 (some (.inr (11, fs_33.set 0 (.int x2)))) := ⟨_, rfl⟩
  replace hw := hw h_36 eh_36
  refine v_putF in_X10 (ci := 11) rfl 0 (Nat.le_of_ble_eq_true rfl) tyX10 tyX10_ok nmX10 q652 rfl rfl rfl rfl rfl rfl rfl dX10_init_39 e_34 e_35 ?_
  rw [← eh_36]
  exact v_vret dX10_init_42 rfl ⟨rfl, hw⟩
theorem met_X10_init {post : (AH) → Prop}   {b0 : Nat} {x1 : Option Nat} {x2 : Int32} {h : AH}  (hw : w_X10_init post  b0 x1 x2 h) : Mt l E yX10_init (ws_ yX10_init cX10_init 3 none) r_X10_init [va_rf (some b0), va_rf x1, .int x2] h (vpv (fun (h' : AH) => post h')) := v_entry (by decide +kernel) (by cases x1 <;> exact (Nat.le_of_ble_eq_true rfl)) (by cases x1 <;> exact rfl) (fun _ => e_X10_init hw)
/-! X10_see -/
abbrev r_X10_see : Room := { frames := 0, cells := 0, slots := 0, locals := 0 }
theorem n_X10_see : vdn yX10_see 1 := ⟨by decide +kernel, by decide +kernel, by decide +kernel⟩
def w_X10_see (post : (Int32) → Prop) (b0 : Nat) (x1 : Int32) (h : AH) : Prop :=
 (∃ (fs_1 : List Value) (z_4 : Int32), h b0 = some (.inr (11, fs_1)) ∧ fs_1[0]? = some (.int z_4) ∧ ((z_4 ≤ x1 → (post (nI 0))) ∧ (¬ z_4 ≤ x1 → (∃ (fs_9 : List Value) (r_12 : Option Nat), h b0 = some (.inr (11, fs_9)) ∧ fs_9[10]? = some (va_rf r_12) ∧ (∃ a_13 : Nat, r_12 = some a_13 ∧ (∃ (fs_14 : List Value) (r_17 : Option Nat), h a_13 = some (.inr (0, fs_14)) ∧ fs_14[4]? = some (va_rf r_17) ∧ (∃ a_18 : Nat, r_17 = some a_18 ∧ (∃ (N_19 : Nat) (g_20 : Nat → Int32), h a_18 = some (.inl (2, N_19, .inl g_20)) ∧ vp_in x1 N_19 ∧ (post ((g_20 (x1).toNatClampNeg) &&& (nI 255)))))))))))
theorem e_X10_see {post : (Int32) → Prop}   {b0 : Nat} {x1 : Int32} {h : AH}  (hw : w_X10_see post  b0 x1 h) : VV l E X cX10_see RX10 "see" 2 r_X10_see (some .int) (vpi (fun (r : Int32) (h' : AH) => h' = h ∧ post r)) h 0 0 0 [(0, va_rf (some b0)), (1, .int x1)] [] := by
  refine v_iload_n (q := 1) dX10_see_0 rfl rfl ?_
  refine v_aload_n (q := 0) dX10_see_1 rfl rfl ?_
  obtain ⟨fs_1, z_4, e_2, e_3, hw⟩ := hw
  refine v_get in_X10 (ci := 11) rfl 0 (Nat.le_of_ble_eq_true rfl) q652 rfl dX10_see_2 e_2 e_3 ?_
  obtain ⟨hw_7, hw_8⟩ := hw
  refine v_icmp_ge (tgt := 24) dX10_see_5 (by decide) (fun c_5 => ?_) (fun c_6 => ?_)
  · have hw := hw_7 c_5
    refine v_iconst dX10_see_24 ic_0 ?_
    exact v_iret dX10_see_25 rfl ⟨_, rfl, rfl, hw⟩
  · have hw := hw_8 c_6
    refine v_aload_n (q := 0) dX10_see_8 rfl rfl ?_
    obtain ⟨fs_9, r_12, e_10, e_11, hw⟩ := hw
    refine v_get in_X10 (ci := 11) rfl 10 (Nat.le_of_ble_eq_true rfl) q666 rfl dX10_see_9 e_10 e_11 ?_
    obtain ⟨a_13, ea_13, hw⟩ := hw
    subst ea_13
    obtain ⟨fs_14, r_17, e_15, e_16, hw⟩ := hw
    refine v_getN in_X0 (ci := 0) rfl 4 (Nat.le_of_ble_eq_true rfl) q322 rfl dX10_see_12 e_15 e_16 ?_
    refine v_iload_n (q := 1) dX10_see_15 rfl rfl ?_
    obtain ⟨a_18, ea_18, hw⟩ := hw
    subst ea_18
    obtain ⟨N_19, g_20, e_21, hi_22, hw⟩ := hw
    refine v_bald dX10_see_16 e_21 hi_22 ?_
    refine v_sipush dX10_see_17 sp_255 ?_
    refine v_iand dX10_see_20 ?_
    refine v_goto (tgt := 25) dX10_see_21 (by decide) ?_
    exact v_iret dX10_see_25 rfl ⟨_, rfl, rfl, hw⟩
theorem met_X10_see {post : (Int32) → Prop}   {b0 : Nat} {x1 : Int32} {h : AH}  (hw : w_X10_see post  b0 x1 h) : Mt l E yX10_see (ws_ yX10_see cX10_see 2 (some .int)) r_X10_see [va_rf (some b0), .int x1] h (vpi (fun (r : Int32) (h' : AH) => h' = h ∧ post r)) := v_entry (by decide +kernel) (Nat.le_of_ble_eq_true rfl) rfl (fun _ => e_X10_see hw)
/-! X10_isSmall -/
abbrev r_X10_isSmall : Room := { frames := 1, cells := 0, slots := 0, locals := 25 }
theorem n_X10_isSmall : vdn yX10_isSmall 1 := ⟨by decide +kernel, by decide +kernel, by decide +kernel⟩
def w_X10_isSmall (post : (Int32) → Prop) (b0 : Nat) (x1 : Int32) (h : AH) : Prop :=
 (∃ fs_4 : List Value, h b0 = some (.inr (11, fs_4)) ∧ (w_X10_see (fun (z_1 : Int32) => (w_X0_in (fun (z_2 : Int32) => ((z_2 = nI 0 ∨ z_2 = nI 1) ∧ post z_2)) ((z_1).toInt64) (lN 97) (lN 122))) b0 x1 h))
theorem e_X10_isSmall {post : (Int32) → Prop}   {b0 : Nat} {x1 : Int32} {h : AH}  (hw : w_X10_isSmall post  b0 x1 h) : VV l E X cX10_isSmall RX10 "isSmall" 2 r_X10_isSmall (some .boolean) (vpi (fun (r : Int32) (h' : AH) => h' = h ∧ post r)) h 0 0 0 [(0, va_rf (some b0)), (1, .int x1)] [] := by
  refine v_aload_n (q := 0) dX10_isSmall_0 rfl rfl ?_
  refine v_iload_n (q := 1) dX10_isSmall_1 rfl rfl ?_
  obtain ⟨fs_4, e_5, hw⟩ := hw
  refine v_callV q698 q700 qs12 q123 q701 (ci := 11) rfl e_5 n_X10_see ⟨Nat.le_of_ble_eq_true rfl, Nat.le_of_ble_eq_true rfl⟩ [.int x1] [] (met_X10_see hw) rfl (Nat.zero_le _) ⟨Nat.le_refl _, Nat.le_refl _⟩ dX10_isSmall_2 rfl (v_ki (fun z_1 h1 hv => ?_))
  clear hw
  obtain ⟨e9, hw⟩ := hv
  refine v_heap e9 ?_
  clear e9
  refine v_i2l dX10_isSmall_5 ?_
  refine v_ldc2 (v := (lN 97)) dX10_isSmall_6 q706 ?_
  refine v_ldc2 (v := (lN 122)) dX10_isSmall_9 q707 ?_
  refine v_callSN q708 q394 q104 q395 n_X0_in ⟨Nat.le_of_ble_eq_true rfl, Nat.le_of_ble_eq_true rfl⟩ [.long ((z_1).toInt64), .long (lN 97), .long (lN 122)] [] (met_X0_in hw) rfl (Nat.zero_le _) ⟨Nat.le_refl _, Nat.le_refl _⟩ dX10_isSmall_12 rfl (v_ki (fun z_2 h1 hv => ?_))
  clear hw
  obtain ⟨e9, hw⟩ := hv
  refine v_heap e9 ?_
  clear e9
  obtain ⟨hn_3, hw⟩ := hw
  exact v_zret dX10_isSmall_15 rfl (v_z1 hn_3).1 ⟨_, rfl, rfl, hw⟩
theorem met_X10_isSmall {post : (Int32) → Prop}   {b0 : Nat} {x1 : Int32} {h : AH}  (hw : w_X10_isSmall post  b0 x1 h) : Mt l E yX10_isSmall (ws_ yX10_isSmall cX10_isSmall 2 (some .boolean)) r_X10_isSmall [va_rf (some b0), .int x1] h (vpi (fun (r : Int32) (h' : AH) => h' = h ∧ post r)) := v_entry (by decide +kernel) (Nat.le_of_ble_eq_true rfl) rfl (fun _ => e_X10_isSmall hw)
end WALK
