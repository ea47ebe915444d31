set_option maxRecDepth 100000
section WALK
variable {l : Launch} {E : VE} {X : VX} {b : Nat → Nat}
/-! J0_init -/
abbrev r_J0_init : Room := { frames := 1, cells := 0, slots := 0, locals := 20 }
theorem n_J0_init : vdn yJ0_init 0 := ⟨by decide +kernel, by decide +kernel, by decide +kernel⟩
def w_J0_init (post : Prop) (b0 : Nat) (h : AH) : Prop :=
 (post)
theorem e_J0_init {post : Prop}   {b0 : Nat} {h : AH}  (hw : w_J0_init post  b0 h) : VV l E X cJ0_init RJ0 "<init>" 1 r_J0_init none (vpv (fun (h' : AH) => h' = h ∧ post)) h 0 0 0 [(0, va_rf (some b0))] [] := by
  refine v_aload_n (q := 0) dJ0_init_0 rfl rfl ?_
  refine v_objInit q173 q154 q155 (Nat.zero_le _) (Nat.le_of_ble_eq_true rfl) (Nat.le_of_ble_eq_true rfl) dJ0_init_1 ?_
  exact v_vret dJ0_init_4 rfl ⟨rfl, rfl, hw⟩
theorem met_J0_init {post : Prop}   {b0 : Nat} {h : AH}  (hw : w_J0_init post  b0 h) : Mt l E yJ0_init (ws_ yJ0_init cJ0_init 1 none) r_J0_init [va_rf (some b0)] h (vpv (fun (h' : AH) => h' = h ∧ post)) := v_entry (by decide +kernel) (Nat.le_of_ble_eq_true rfl) rfl (fun _ => e_J0_init hw)
/-! J1_init -/
abbrev r_J1_init : Room := { frames := 2, cells := 0, slots := 0, locals := 40 }
theorem n_J1_init : vdn yJ1_init 0 := ⟨by decide +kernel, by decide +kernel, by decide +kernel⟩
def w_J1_init (post : (AH) → Prop) (b0 : Nat) (h : AH) : Prop :=
 (w_J0_init (∃ fs_1 : List Value, h b0 = some (.inr (2, fs_1)) ∧ 0 < fs_1.length ∧ ∀ h_4 : AH, h_4 = va_up h b0 (some (.inr (2, fs_1.set 0 (.int (nI 0))))) → (post h_4)) b0 h)
theorem e_J1_init {post : (AH) → Prop}   {b0 : Nat} {h : AH}  (hw : w_J1_init post  b0 h) : VV l E X cJ1_init RJ1 "<init>" 1 r_J1_init none (vpv (fun (h' : AH) => post h')) h 0 0 0 [(0, va_rf (some b0))] [] := by
  refine v_aload_n (q := 0) dJ1_init_0 rfl rfl ?_
  refine v_callI q170 q171 q106 q172 rfl n_J0_init ⟨Nat.le_of_ble_eq_true rfl, Nat.le_of_ble_eq_true rfl⟩ [] [] (met_J0_init hw) rfl (Nat.zero_le _) ⟨Nat.le_refl _, Nat.le_refl _⟩ dJ1_init_1 rfl (v_kv (fun h1 hv => ?_))
  clear hw
  obtain ⟨e9, hw⟩ := hv
  refine v_heap e9 ?_
  clear e9
  refine v_aload_n (q := 0) dJ1_init_4 rfl rfl ?_
  refine v_iconst dJ1_init_5 ic_0 ?_
  obtain ⟨fs_1, e_2, e_3, hw⟩ := hw
  obtain ⟨h_4, eh_4⟩ : ∃ z9 : AH, z9 = va_up h b0 (some (.inr (2, fs_1.set 0 (.int (nI 0))))) := ⟨_, rfl⟩
  replace hw := hw h_4 eh_4
  refine v_put in_J2 (ci := 2) rfl 0 (Nat.le_of_ble_eq_true rfl) tyJ2 tyJ2_ok nmJ2 q180 rfl rfl rfl rfl rfl dJ1_init_6 e_2 e_3 ?_
  rw [← eh_4]
  exact v_vret dJ1_init_9 rfl ⟨rfl, hw⟩
theorem met_J1_init {post : (AH) → Prop}   {b0 : Nat} {h : AH}  (hw : w_J1_init post  b0 h) : Mt l E yJ1_init (ws_ yJ1_init cJ1_init 1 none) r_J1_init [va_rf (some b0)] h (vpv (fun (h' : AH) => post h')) := v_entry (by decide +kernel) (Nat.le_of_ble_eq_true rfl) rfl (fun _ => e_J1_init hw)
/-! J2_init -/
abbrev r_J2_init : Room := { frames := 3, cells := 1, slots := 2, locals := 60 }
theorem n_J2_init : vdn yJ2_init 1 := ⟨by decide +kernel, by decide +kernel, by decide +kernel⟩
def w_J2_init (post : (AH) → Prop) (b0 : Nat) (x1 : Int32) (h : AH) : Prop :=
 (w_J1_init (fun (h_1 : AH) => ((x1 ≤ 0 → False) ∧ (¬ x1 ≤ 0 → (∃ N_13 : Nat, ¬ x1 < 0 ∧ (x1).toNatClampNeg = N_13 ∧ (N_13 ≤ 65536 ∧ 0 + 1 ≤ 1) ∧ 0 + N_13 ≤ 2 ∧ ∀ a_6 : Nat, h_1 a_6 = none → ∀ h_8 : AH, h_8 = va_up h_1 a_6 (some (.inl (5, N_13, .inr (.inr (.inr (.inr (fun _ => none))))))) → (∃ fs_14 : List Value, h_8 b0 = some (.inr (2, fs_14)) ∧ 1 < fs_14.length ∧ ∀ h_17 : AH, h_17 = va_up h_8 b0 (some (.inr (2, fs_14.set 1 (va_rf (some a_6))))) → (post h_17)))))) b0 h)
theorem e_J2_init {post : (AH) → Prop}   {b0 : Nat} {x1 : Int32} {h : AH}  (hw : w_J2_init post  b0 x1 h) : VV l E X cJ2_init RJ2 "<init>" 2 r_J2_init none (vpv (fun (h' : AH) => post h')) h 0 0 0 [(0, va_rf (some b0)), (1, .int x1)] [] := by
  refine v_aload_n (q := 0) dJ2_init_0 rfl rfl ?_
  refine v_callI0 q167 q168 q107 q169 rfl n_J1_init ⟨Nat.le_of_ble_eq_true rfl, Nat.le_of_ble_eq_true rfl⟩ [] [] (met_J1_init hw) rfl (Nat.zero_le _) rfl rfl dJ2_init_1 rfl (v_kv (fun h_1 hv => ?_))
  clear hw
  have hw := hv
  clear hv
  refine v_iload_n (q := 1) dJ2_init_4 rfl rfl ?_
  obtain ⟨hw_4, hw_5⟩ := hw
  refine v_if_le (tgt := 19) dJ2_init_5 (by decide) (fun c_2 => ?_) (fun c_3 => ?_)
  · have hw := hw_4 c_2
    exact hw.elim
  · have hw := hw_5 c_3
    refine v_aload_n (q := 0) dJ2_init_8 rfl rfl ?_
    refine v_iload_n (q := 1) dJ2_init_9 rfl rfl ?_
    obtain ⟨N_13, e_9, e_12, e_10, e_11, hw⟩ := hw
    refine v_newqO q174 q175 e_9 e_12 (Nat.le_trans (Nat.mul_le_mul_right _ e_10.1) (by decide)) e_10.2 e_11 dJ2_init_10 (fun a_6 e_7 => ?_)
    obtain ⟨h_8, eh_8⟩ : ∃ z9 : AH, z9 = va_up h_1 a_6 (some (.inl (5, N_13, .inr (.inr (.inr (.inr (fun _ => none))))))) := ⟨_, rfl⟩
    replace hw := hw a_6 e_7 h_8 eh_8
    rw [← eh_8]
    obtain ⟨fs_14, e_15, e_16, hw⟩ := hw
    obtain ⟨h_17, eh_17⟩ : ∃ z9 : AH, z9 = va_up h_8 b0 (some (.inr (2, fs_14.set 1 (va_rf (some a_6))))) := ⟨_, rfl⟩
    replace hw := hw h_17 eh_17
    refine v_put in_J2 (ci := 2) rfl 1 (Nat.le_of_ble_eq_true rfl) tyJ2 tyJ2_ok nmJ2 q178 rfl rfl rfl (v_rfa _ _).1 (v_rfa _ _).2 dJ2_init_13 e_15 e_16 ?_
    rw [← eh_17]
    refine v_goto (tgt := 60) dJ2_init_16 (by decide) ?_
    exact v_vret dJ2_init_60 rfl ⟨rfl, hw⟩
theorem met_J2_init {post : (AH) → Prop}   {b0 : Nat} {x1 : Int32} {h : AH}  (hw : w_J2_init post  b0 x1 h) : Mt l E yJ2_init (ws_ yJ2_init cJ2_init 2 none) r_J2_init [va_rf (some b0), .int x1] h (vpv (fun (h' : AH) => post h')) := v_entry (by decide +kernel) (Nat.le_of_ble_eq_true rfl) rfl (fun _ => e_J2_init hw)
/-! J2_size -/
abbrev r_J2_size : Room := { frames := 0, cells := 0, slots := 0, locals := 0 }
theorem n_J2_size : vdn yJ2_size 0 := ⟨by decide +kernel, by decide +kernel, by decide +kernel⟩
def w_J2_size (post : (Int32) → Prop) (b0 : Nat) (h : AH) : Prop :=
 (∃ (fs_1 : List Value) (z_4 : Int32), h b0 = some (.inr (2, fs_1)) ∧ fs_1[2]? = some (.int z_4) ∧ (post z_4))
theorem e_J2_size {post : (Int32) → Prop}   {b0 : Nat} {h : AH}  (hw : w_J2_size post  b0 h) : VV l E X cJ2_size RJ2 "size" 1 r_J2_size (some .int) (vpi (fun (r : Int32) (h' : AH) => h' = h ∧ post r)) h 0 0 0 [(0, va_rf (some b0))] [] := by
  refine v_aload_n (q := 0) dJ2_size_0 rfl rfl ?_
  obtain ⟨fs_1, z_4, e_2, e_3, hw⟩ := hw
  refine v_get in_J2 (ci := 2) rfl 2 (Nat.le_of_ble_eq_true rfl) q179 rfl dJ2_size_1 e_2 e_3 ?_
  exact v_iret dJ2_size_4 rfl ⟨_, rfl, rfl, hw⟩
theorem met_J2_size {post : (Int32) → Prop}   {b0 : Nat} {h : AH}  (hw : w_J2_size post  b0 h) : Mt l E yJ2_size (ws_ yJ2_size cJ2_size 1 (some .int)) r_J2_size [va_rf (some b0)] h (vpi (fun (r : Int32) (h' : AH) => h' = h ∧ post r)) := v_entry (by decide +kernel) (Nat.le_of_ble_eq_true rfl) rfl (fun _ => e_J2_size hw)
/-! J3_hugeLength -/
abbrev r_J3_hugeLength : Room := { frames := 0, cells := 0, slots := 0, locals := 0 }
theorem n_J3_hugeLength : vdn yJ3_hugeLength 2 := ⟨by decide +kernel, by decide +kernel, by decide +kernel⟩
def w_J3_hugeLength (post : (Int32) → Prop) (x0 : Int32) (x1 : Int32) : Prop :=
 (∀ z_1 : Int32, z_1 = (x0 + x1) → ((0 ≤ z_1 → (((nI 2147483639) < z_1 → (post z_1)) ∧ (¬ (nI 2147483639) < z_1 → (post (nI 2147483639))))) ∧ (¬ 0 ≤ z_1 → False)))
theorem e_J3_hugeLength {post : (Int32) → Prop}   {x0 : Int32} {x1 : Int32} {h : AH}  (hw : w_J3_hugeLength post  x0 x1) : VV l E X cJ3_hugeLength RJ3 "hugeLength" 3 r_J3_hugeLength (some .int) (vpi (fun (r : Int32) (h' : AH) => h' = h ∧ post r)) h 0 0 0 [(0, .int x0), (1, .int x1)] [] := by
  refine v_iload_n (q := 0) dJ3_hugeLength_0 rfl rfl ?_
  refine v_iload_n (q := 1) dJ3_hugeLength_1 rfl rfl ?_
  refine v_iadd dJ3_hugeLength_2 ?_
  refine v_topi (fun z_1 e_1 => ?_)
  replace hw := hw z_1 e_1
  refine v_istore_n (lv1 := [(2, .int z_1), (0, .int x0), (1, .int x1)]) dJ3_hugeLength_3 rfl (Nat.le_of_ble_eq_true rfl) rfl ?_
  refine v_iload_n (q := 0) dJ3_hugeLength_4 rfl rfl ?_
  obtain ⟨hw_4, hw_5⟩ := hw
  refine v_if_ge (tgt := 49) dJ3_hugeLength_5 (by decide) (fun c_2 => ?_) (fun c_3 => ?_)
  · have hw := hw_4 c_2
    refine v_iload_n (q := 0) dJ3_hugeLength_49 rfl rfl ?_
    refine v_ldc (v := (nI 2147483639)) dJ3_hugeLength_50 q469 ?_
    obtain ⟨hw_8, hw_9⟩ := hw
    refine v_icmp_gt (tgt := 58) dJ3_hugeLength_52 (by decide) (fun c_6 => ?_) (fun c_7 => ?_)
    · have hw := hw_8 c_6
      refine v_iload_n (q := 0) dJ3_hugeLength_58 rfl rfl ?_
      exact v_iret dJ3_hugeLength_59 rfl ⟨_, rfl, rfl, hw⟩
    · have hw := hw_9 c_7
      refine v_ldc (v := (nI 2147483639)) dJ3_hugeLength_55 q469 ?_
      exact v_iret dJ3_hugeLength_57 rfl ⟨_, rfl, rfl, hw⟩
  · have hw := hw_5 c_3
    exact hw.elim
theorem met_J3_hugeLength {post : (Int32) → Prop}   {x0 : Int32} {x1 : Int32} {h : AH}  (hw : w_J3_hugeLength post  x0 x1) : Mt l E yJ3_hugeLength (ws_ yJ3_hugeLength cJ3_hugeLength 3 (some .int)) r_J3_hugeLength [.int x0, .int x1] h (vpi (fun (r : Int32) (h' : AH) => h' = h ∧ post r)) := v_entry (by decide +kernel) (Nat.le_of_ble_eq_true rfl) rfl (fun _ => e_J3_hugeLength hw)
/-! J3_newLength -/
abbrev r_J3_newLength : Room := { frames := 1, cells := 0, slots := 0, locals := 25 }
theorem n_J3_newLength : vdn yJ3_newLength 3 := ⟨by decide +kernel, by decide +kernel, by decide +kernel⟩
def w_J3_newLength_21 (post : (Int32) → Prop) (x0 : Int32) (x1 : Int32) (x2 : Int32) (h : AH) : Prop :=
 (w_J3_hugeLength (fun (z_1 : Int32) => (post z_1)) x0 x1)
def w_J3_newLength (post : (Int32) → Prop) (x0 : Int32) (x1 : Int32) (x2 : Int32) (h : AH) : Prop :=
 (∀ z_2 : Int32, z_2 = (x0 + (if x1 < x2 then x2 else x1)) → ((z_2 ≤ (nI 0) → (w_J3_newLength_21 post x0 x1 x2 h)) ∧ (¬ z_2 ≤ (nI 0) → (((nI 2147483639) < z_2 → (w_J3_newLength_21 post x0 x1 x2 h)) ∧ (¬ (nI 2147483639) < z_2 → (post z_2))))))
theorem b_J3_newLength_21 {post : (Int32) → Prop}   {x0 : Int32} {x1 : Int32} {x2 : Int32} {h : AH}     (hw : w_J3_newLength_21 post x0 x1 x2 h) : VV l E X cJ3_newLength RJ3 "newLength" 4 r_J3_newLength (some .int) (vpi (fun (r : Int32) (h' : AH) => h' = h ∧ post r)) h 0 0 21 [(0, .int x0), (1, .int x1), (2, .int x2)] [] := by
  refine v_iload_n (q := 0) dJ3_newLength_21 rfl rfl ?_
  refine v_iload_n (q := 1) dJ3_newLength_22 rfl rfl ?_
  refine v_callS q470 q471 q115 q472 n_J3_hugeLength ⟨Nat.le_of_ble_eq_true rfl, Nat.le_of_ble_eq_true rfl⟩ [.int x0, .int x1] [] (met_J3_hugeLength hw) rfl (Nat.zero_le _) ⟨Nat.le_refl _, Nat.le_refl _⟩ dJ3_newLength_23 rfl (v_ki (fun z_1 h1 hv => ?_))
  clear hw
  obtain ⟨e9, hw⟩ := hv
  refine v_heap e9 ?_
  clear e9
  exact v_iret dJ3_newLength_26 rfl ⟨_, rfl, rfl, hw⟩
theorem e_J3_newLength {post : (Int32) → Prop}   {x0 : Int32} {x1 : Int32} {x2 : Int32} {h : AH}  (hw : w_J3_newLength post  x0 x1 x2 h) : VV l E X cJ3_newLength RJ3 "newLength" 4 r_J3_newLength (some .int) (vpi (fun (r : Int32) (h' : AH) => h' = h ∧ post r)) h 0 0 0 [(0, .int x0), (1, .int x1), (2, .int x2)] [] := by
  refine v_iload_n (q := 0) dJ3_newLength_0 rfl rfl ?_
  refine v_iload_n (q := 1) dJ3_newLength_1 rfl rfl ?_
  refine v_iload_n (q := 2) dJ3_newLength_2 rfl rfl ?_
  refine v_mmax q466 q467 q116 q468 (Nat.le_of_ble_eq_true rfl) (Nat.le_of_ble_eq_true rfl) (Nat.le_of_ble_eq_true rfl) dJ3_newLength_3 ?_
  refine v_iadd dJ3_newLength_6 ?_
  refine v_topi (fun z_2 e_2 => ?_)
  replace hw := hw z_2 e_2
  refine v_istore_n (lv1 := [(3, .int z_2), (0, .int x0), (1, .int x1), (2, .int x2)]) dJ3_newLength_7 rfl (Nat.le_of_ble_eq_true rfl) rfl ?_
  refine v_iconst dJ3_newLength_8 ic_0 ?_
  refine v_iload_n (q := 0) dJ3_newLength_9 rfl rfl ?_
  obtain ⟨hw_5, hw_6⟩ := hw
  refine v_icmp_ge (tgt := 21) dJ3_newLength_10 (by decide) (fun c_3 => ?_) (fun c_4 => ?_)
  · have hw := hw_5 c_3
    refine v_sub [1, 2, 3] rfl ?_
    exact b_J3_newLength_21  hw
  · have hw := hw_6 c_4
    refine v_iload_n (q := 0) dJ3_newLength_13 rfl rfl ?_
    refine v_ldc (v := (nI 2147483639)) dJ3_newLength_14 q469 ?_
    obtain ⟨hw_9, hw_10⟩ := hw
    refine v_icmp_gt (tgt := 21) dJ3_newLength_16 (by decide) (fun c_7 => ?_) (fun c_8 => ?_)
    · have hw := hw_9 c_7
      refine v_sub [1, 2, 3] rfl ?_
      exact b_J3_newLength_21  hw
    · have hw := hw_10 c_8
      refine v_iload_n (q := 0) dJ3_newLength_19 rfl rfl ?_
      exact v_iret dJ3_newLength_20 rfl ⟨_, rfl, rfl, hw⟩
theorem met_J3_newLength {post : (Int32) → Prop}   {x0 : Int32} {x1 : Int32} {x2 : Int32} {h : AH}  (hw : w_J3_newLength post  x0 x1 x2 h) : Mt l E yJ3_newLength (ws_ yJ3_newLength cJ3_newLength 4 (some .int)) r_J3_newLength [.int x0, .int x1, .int x2] h (vpi (fun (r : Int32) (h' : AH) => h' = h ∧ post r)) := v_entry (by decide +kernel) (Nat.le_of_ble_eq_true rfl) rfl (fun _ => e_J3_newLength hw)
/-! J2_grow_2 -/
abbrev r_J2_grow_2 : Room := { frames := 4, cells := 1, slots := 63, locals := 141 }
theorem n_J2_grow_2 : vdn yJ2_grow_2 1 := ⟨by decide +kernel, by decide +kernel, by decide +kernel⟩
def w_J2_grow_2_20 (post : (Option Nat) → (AH) → Prop) (b0 : Nat) (x1 : Int32) (x2 : Int32) (h : AH) (k : Nat) (n : Nat) : Prop :=
 (w_J3_newLength (fun (z_1 : Int32) => (∃ (fs_2 : List Value) (r_5 : Option Nat), h b0 = some (.inr (2, fs_2)) ∧ fs_2[1]? = some (va_rf r_5) ∧ (k + 1 ≤ 1 ∧ n + 63 ≤ 63 ∧ (w_J5_copyOf (fun (r_6 : Option Nat) (h_7 : AH) => (∃ fs_8 : List Value, h_7 b0 = some (.inr (2, fs_8)) ∧ 1 < fs_8.length ∧ ∀ h_11 : AH, h_11 = va_up h_7 b0 (some (.inr (2, fs_8.set 1 (va_rf r_6)))) → (post r_6 h_11))) r_5 z_1 h)))) x2 (x1 - x2) (x2 >>> ((nI 1) &&& 31)) h)
def w_J2_grow_2 (post : (Option Nat) → (AH) → Prop) (b0 : Nat) (x1 : Int32) (h : AH) : Prop :=
 (∃ (fs_14 : List Value) (r_17 : Option Nat), h b0 = some (.inr (2, fs_14)) ∧ fs_14[1]? = some (va_rf r_17) ∧ (∃ a_18 : Nat, r_17 = some a_18 ∧ (∃ y_19 : vp_A, h a_18 = some (.inl (5, y_19)) ∧ (∀ z_21 : Int32, z_21 = (Int32.ofNat y_19.1) → ((0 < z_21 → (w_J2_grow_2_20 post b0 x1 z_21 h 0 0)) ∧ (¬ 0 < z_21 → False))))))
theorem b_J2_grow_2_20 {post : (Option Nat) → (AH) → Prop}   {b0 : Nat} {x1 : Int32}    (x2 : Int32) (h : AH) (k : Nat) (n : Nat) (hw : w_J2_grow_2_20 post b0 x1 x2 h k n) : VV l E X cJ2_grow_2 RJ2 "grow" 4 r_J2_grow_2 (some (.array (.object "java/lang/Object"))) (vpq (fun (r : Option Nat) (h' : AH) => post r h')) h k n 20 [(0, va_rf (some b0)), (1, .int x1), (2, .int x2)] [] := by
  refine v_iload_n (q := 2) dJ2_grow_2_20 rfl rfl ?_
  refine v_iload_n (q := 1) dJ2_grow_2_21 rfl rfl ?_
  refine v_iload_n (q := 2) dJ2_grow_2_22 rfl rfl ?_
  refine v_isub dJ2_grow_2_23 ?_
  refine v_iload_n (q := 2) dJ2_grow_2_24 rfl rfl ?_
  refine v_iconst dJ2_grow_2_25 ic_1 ?_
  refine v_ishr dJ2_grow_2_26 ?_
  refine v_callS0 q463 q464 q115 q465 n_J3_newLength ⟨Nat.le_of_ble_eq_true rfl, Nat.le_of_ble_eq_true rfl⟩ [.int x2, .int (x1 - x2), .int (x2 >>> ((nI 1) &&& 31))] [] (met_J3_newLength hw) rfl (Nat.zero_le _) rfl rfl dJ2_grow_2_27 rfl (v_ki (fun z_1 h1 hv => ?_))
  clear hw
  obtain ⟨e9, hw⟩ := hv
  refine v_heap e9 ?_
  clear e9
  refine v_istore_n (lv1 := [(3, .int z_1), (0, va_rf (some b0)), (1, .int x1), (2, .int x2)]) dJ2_grow_2_30 rfl (Nat.le_of_ble_eq_true rfl) rfl ?_
  refine v_aload_n (q := 1) dJ2_grow_2_31 rfl rfl ?_
  refine v_aload_n (q := 1) dJ2_grow_2_32 rfl rfl ?_
  obtain ⟨fs_2, r_5, e_3, e_4, hw⟩ := hw
  refine v_get in_J2 (ci := 2) rfl 1 (Nat.le_of_ble_eq_true rfl) q178 rfl dJ2_grow_2_33 e_3 e_4 ?_
  refine v_iload_n (q := 0) dJ2_grow_2_36 rfl rfl ?_
  obtain ⟨e_12, e_13, hw⟩ := hw
  refine v_callS q473 q474 q117 q475 n_J5_copyOf ⟨Nat.le_of_ble_eq_true rfl, Nat.le_of_ble_eq_true rfl⟩ [va_rf r_5, .int z_1] [va_rf (some b0)] (met_J5_copyOf hw) rfl (by simp only [List.map_cons, List.map_nil, List.sum_cons, List.sum_nil, v_rf1, v_cI, v_cJ]; decide) ⟨e_12, e_13⟩ dJ2_grow_2_37 rfl (v_kq (fun r_6 h_7 hv => ?_))
  clear hw
  have hw := hv
  clear hv
  refine v_dup_x1 dJ2_grow_2_40 (v_rf1 _) (v_rf1 _) ?_
  obtain ⟨fs_8, e_9, e_10, hw⟩ := hw
  obtain ⟨h_11, eh_11⟩ : ∃ z9 : AH, z9 = va_up h_7 b0 (some (.inr (2, fs_8.set 1 (va_rf r_6)))) := ⟨_, rfl⟩
  replace hw := hw h_11 eh_11
  refine v_put in_J2 (ci := 2) rfl 1 (Nat.le_of_ble_eq_true rfl) tyJ2 tyJ2_ok nmJ2 q178 rfl rfl rfl (v_rfa _ _).1 (v_rfa _ _).2 dJ2_grow_2_41 e_9 e_10 ?_
  rw [← eh_11]
  exact v_aret dJ2_grow_2_44 rfl (Or.inr ⟨_, rfl⟩) ⟨_, rfl, hw⟩
theorem e_J2_grow_2 {post : (Option Nat) → (AH) → Prop}   {b0 : Nat} {x1 : Int32} {h : AH}  (hw : w_J2_grow_2 post  b0 x1 h) : VV l E X cJ2_grow_2 RJ2 "grow" 4 r_J2_grow_2 (some (.array (.object "java/lang/Object"))) (vpq (fun (r : Option Nat) (h' : AH) => post r h')) h 0 0 0 [(0, va_rf (some b0)), (1, .int x1)] [] := by
  refine v_aload_n (q := 0) dJ2_grow_2_0 rfl rfl ?_
  obtain ⟨fs_14, r_17, e_15, e_16, hw⟩ := hw
  refine v_get in_J2 (ci := 2) rfl 1 (Nat.le_of_ble_eq_true rfl) q178 rfl dJ2_grow_2_1 e_15 e_16 ?_
  obtain ⟨a_18, ea_18, hw⟩ := hw
  subst ea_18
  obtain ⟨y_19, e_20, hw⟩ := hw
  refine v_alen (tt := 5) rfl dJ2_grow_2_4 e_20 rfl ?_
  refine v_topi (fun z_21 e_21 => ?_)
  replace hw := hw z_21 e_21
  refine v_istore_n (lv1 := [(2, .int z_21), (0, va_rf (some b0)), (1, .int x1)]) dJ2_grow_2_5 rfl (Nat.le_of_ble_eq_true rfl) rfl ?_
  refine v_iload_n (q := 0) dJ2_grow_2_6 rfl rfl ?_
  obtain ⟨hw_24, hw_25⟩ := hw
  refine v_if_gt (tgt := 20) dJ2_grow_2_7 (by decide) (fun c_22 => ?_) (fun c_23 => ?_)
  · have hw := hw_24 c_22
    refine v_sub [1, 2, 0] rfl ?_
    exact b_J2_grow_2_20 z_21 h 0 0 hw
  · have hw := hw_25 c_23
    exact hw.elim
theorem met_J2_grow_2 {post : (Option Nat) → (AH) → Prop}   {b0 : Nat} {x1 : Int32} {h : AH}  (hw : w_J2_grow_2 post  b0 x1 h) : Mt l E yJ2_grow_2 (ws_ yJ2_grow_2 cJ2_grow_2 4 (some (.array (.object "java/lang/Object")))) r_J2_grow_2 [va_rf (some b0), .int x1] h (vpq (fun (r : Option Nat) (h' : AH) => post r h')) := v_entry (by decide +kernel) (Nat.le_of_ble_eq_true rfl) rfl (fun _ => e_J2_grow_2 hw)
/-! J2_grow -/
abbrev r_J2_grow : Room := { frames := 5, cells := 1, slots := 63, locals := 164 }
theorem n_J2_grow : vdn yJ2_grow 0 := ⟨by decide +kernel, by decide +kernel, by decide +kernel⟩
def w_J2_grow (post : (Option Nat) → (AH) → Prop) (b0 : Nat) (h : AH) : Prop :=
 (∃ (fs_1 : List Value) (z_4 : Int32), h b0 = some (.inr (2, fs_1)) ∧ fs_1[2]? = some (.int z_4) ∧ (∃ fs_9 : List Value, h b0 = some (.inr (2, fs_9)) ∧ (0 + 1 ≤ 1 ∧ 0 + 63 ≤ 63 ∧ (w_J2_grow_2 (fun (r_5 : Option Nat) (h_6 : AH) => (post r_5 h_6)) b0 (z_4 + (nI 1)) h))))
theorem e_J2_grow {post : (Option Nat) → (AH) → Prop}   {b0 : Nat} {h : AH}  (hw : w_J2_grow post  b0 h) : VV l E X cJ2_grow RJ2 "grow" 1 r_J2_grow (some (.array (.object "java/lang/Object"))) (vpq (fun (r : Option Nat) (h' : AH) => post r h')) h 0 0 0 [(0, va_rf (some b0))] [] := by
  refine v_aload_n (q := 0) dJ2_grow_0 rfl rfl ?_
  refine v_aload_n (q := 0) dJ2_grow_1 rfl rfl ?_
  obtain ⟨fs_1, z_4, e_2, e_3, hw⟩ := hw
  refine v_get in_J2 (ci := 2) rfl 2 (Nat.le_of_ble_eq_true rfl) q179 rfl dJ2_grow_2 e_2 e_3 ?_
  refine v_iconst dJ2_grow_5 ic_1 ?_
  refine v_iadd dJ2_grow_6 ?_
  obtain ⟨fs_9, e_10, hw⟩ := hw
  obtain ⟨e_7, e_8, hw⟩ := hw
  refine v_callV q457 q459 qs3 q108 q460 (ci := 2) rfl e_10 n_J2_grow_2 ⟨Nat.le_of_ble_eq_true rfl, Nat.le_of_ble_eq_true rfl⟩ [.int (z_4 + (nI 1))] [] (met_J2_grow_2 hw) rfl (Nat.zero_le _) ⟨e_7, e_8⟩ dJ2_grow_7 rfl (v_kq (fun r_5 h_6 hv => ?_))
  clear hw
  have hw := hv
  clear hv
  exact v_aret dJ2_grow_10 rfl (Or.inr ⟨_, rfl⟩) ⟨_, rfl, hw⟩
theorem met_J2_grow {post : (Option Nat) → (AH) → Prop}   {b0 : Nat} {h : AH}  (hw : w_J2_grow post  b0 h) : Mt l E yJ2_grow (ws_ yJ2_grow cJ2_grow 1 (some (.array (.object "java/lang/Object")))) r_J2_grow [va_rf (some b0)] h (vpq (fun (r : Option Nat) (h' : AH) => post r h')) := v_entry (by decide +kernel) (Nat.le_of_ble_eq_true rfl) rfl (fun _ => e_J2_grow hw)
/-! J2_add_2 -/
abbrev r_J2_add_2 : Room := { frames := 6, cells := 1, slots := 63, locals := 184 }
theorem n_J2_add_2 : vdn yJ2_add_2 3 := ⟨by decide +kernel, by decide +kernel, by decide +kernel⟩
def w_J2_add_2_11 (post : (AH) → Prop) (b0 : Nat) (x1 : Option Nat) (x3 : Int32) (x2 : Option Nat) (h : AH) (k : Nat) (n : Nat) : Prop :=
 (∃ a_1 : Nat, x2 = some a_1 ∧ (∃ a_7 : Nat, x1 = some a_7 ∧ (∃ (ci_10 : Nat) (fs_8 : List Value), vobj ci_10 = true ∧ h a_7 = some (.inr (ci_10, fs_8)) ∧ ∃ (N_2 : Nat) (g_3 : Nat → Option Nat), h a_1 = (some (.inl (5, N_2, .inr (.inr (.inr (.inr g_3)))))) ∧ vp_in x3 N_2 ∧ ∀ h_6 : AH, h_6 = va_up h a_1 (some (.inl (5, N_2, .inr (.inr (.inr (.inr (va_up g_3 (x3).toNatClampNeg (some a_7)))))))) → (∃ fs_12 : List Value, h_6 b0 = some (.inr (2, fs_12)) ∧ 2 < fs_12.length ∧ ∀ h_15 : AH, h_15 = va_up h_6 b0 (some (.inr (2, fs_12.set 2 (.int (x3 + (nI 1)))))) → (post h_15)))))
def w_J2_add_2 (post : (AH) → Prop) (b0 : Nat) (x1 : Option Nat) (x2 : Option Nat) (x3 : Int32) (h : AH) : Prop :=
 (∃ a_16 : Nat, x2 = some a_16 ∧ (∃ y_17 : vp_A, h a_16 = some (.inl (5, y_17)) ∧ ((¬ x3 = (Int32.ofNat y_17.1) → (w_J2_add_2_11 post b0 x1 x3 (some a_16) h 0 0)) ∧ (x3 = (Int32.ofNat y_17.1) → (∃ fs_27 : List Value, h b0 = some (.inr (2, fs_27)) ∧ (0 + 1 ≤ 1 ∧ 0 + 63 ≤ 63 ∧ (w_J2_grow (fun (r_23 : Option Nat) (h_24 : AH) => (w_J2_add_2_11 post b0 x1 x3 r_23 h_24 (0 + 1) (0 + 63))) b0 h)))))))
theorem b_J2_add_2_11 {post : (AH) → Prop}   {b0 : Nat} {x1 : Option Nat} {x3 : Int32}    (x2 : Option Nat) (h : AH) (k : Nat) (n : Nat) (hw : w_J2_add_2_11 post b0 x1 x3 x2 h k n) : VV l E X cJ2_add_2 RJ2 "add" 4 r_J2_add_2 none (vpv (fun (h' : AH) => post h')) h k n 11 [(0, va_rf (some b0)), (1, va_rf x1), (3, .int x3), (2, va_rf x2)] [] := by
  refine v_aload_n (q := 3) dJ2_add_2_11 rfl rfl ?_
  refine v_iload_n (q := 2) dJ2_add_2_12 rfl rfl ?_
  refine v_aload_n (q := 1) dJ2_add_2_13 rfl rfl ?_
  obtain ⟨a_1, ea_1, hw⟩ := hw
  subst ea_1
  obtain ⟨a_7, ea_7, hw⟩ := hw
  subst ea_7
  obtain ⟨ci_10, fs_8, e_11, e_9, N_2, g_3, e_4, hi_5, hw⟩ := hw
  obtain ⟨h_6, eh_6⟩ : ∃ z9 : AH, z9 = va_up h a_1 (some (.inl (5, N_2, .inr (.inr (.inr (.inr (va_up g_3 (x3).toNatClampNeg (some a_7)))))))) := ⟨_, rfl⟩
  replace hw := hw h_6 eh_6
  refine v_aastOg e_11 dJ2_add_2_14 e_4 hi_5 e_9 ?_
  rw [← eh_6]
  refine v_aload_n (q := 0) dJ2_add_2_15 rfl rfl ?_
  refine v_iload_n (q := 2) dJ2_add_2_16 rfl rfl ?_
  refine v_iconst dJ2_add_2_17 ic_1 ?_
  refine v_iadd dJ2_add_2_18 ?_
  obtain ⟨fs_12, e_13, e_14, hw⟩ := hw
  obtain ⟨h_15, eh_15⟩ : ∃ z9 : AH, z9 = va_up h_6 b0 (some (.inr (2, fs_12.set 2 (.int (x3 + (nI 1)))))) := ⟨_, rfl⟩
  replace hw := hw h_15 eh_15
  refine v_put in_J2 (ci := 2) rfl 2 (Nat.le_of_ble_eq_true rfl) tyJ2 tyJ2_ok nmJ2 q179 rfl rfl rfl rfl rfl dJ2_add_2_19 e_13 e_14 ?_
  rw [← eh_15]
  exact v_vret dJ2_add_2_22 rfl ⟨rfl, hw⟩
theorem e_J2_add_2 {post : (AH) → Prop}   {b0 : Nat} {x1 : Option Nat} {x2 : Option Nat} {x3 : Int32} {h : AH}  (hw : w_J2_add_2 post  b0 x1 x2 x3 h) : VV l E X cJ2_add_2 RJ2 "add" 4 r_J2_add_2 none (vpv (fun (h' : AH) => post h')) h 0 0 0 [(0, va_rf (some b0)), (1, va_rf x1), (2, va_rf x2), (3, .int x3)] [] := by
  refine v_iload_n (q := 3) dJ2_add_2_0 rfl rfl ?_
  refine v_aload_n (q := 2) dJ2_add_2_1 rfl rfl ?_
  obtain ⟨a_16, ea_16, hw⟩ := hw
  subst ea_16
  obtain ⟨y_17, e_18, hw⟩ := hw
  refine v_alen (tt := 5) rfl dJ2_add_2_2 e_18 rfl ?_
  obtain ⟨hw_21, hw_22⟩ := hw
  refine v_icmp_ne (tgt := 11) dJ2_add_2_3 (by decide) (fun c_19 => ?_) (fun c_20 => ?_)
  · have hw := hw_21 c_19
    refine v_sub [0, 1, 3, 2] rfl ?_
    exact b_J2_add_2_11 (some a_16) h 0 0 hw
  · have hw := hw_22 c_20
    refine v_aload_n (q := 0) dJ2_add_2_6 rfl rfl ?_
    obtain ⟨fs_27, e_28, hw⟩ := hw
    obtain ⟨e_25, e_26, hw⟩ := hw
    refine v_callV q453 q455 qs2 q108 q456 (ci := 2) rfl e_28 n_J2_grow ⟨Nat.le_of_ble_eq_true rfl, Nat.le_of_ble_eq_true rfl⟩ [] [] (met_J2_grow hw) rfl (Nat.zero_le _) ⟨e_25, e_26⟩ dJ2_add_2_7 rfl (v_kq (fun r_23 h_24 hv => ?_))
    clear hw
    have hw := hv
    clear hv
    refine v_astore_n (lv1 := [(2, va_rf r_23), (0, va_rf (some b0)), (1, va_rf x1), (3, .int x3)]) dJ2_add_2_10 rfl (Nat.le_of_ble_eq_true rfl) (by cases x1 <;> rfl) ?_
    refine v_sub [1, 2, 3, 0] rfl ?_
    exact b_J2_add_2_11 r_23 h_24 (0 + 1) (0 + 63) hw
theorem met_J2_add_2 {post : (AH) → Prop}   {b0 : Nat} {x1 : Option Nat} {x2 : Option Nat} {x3 : Int32} {h : AH}  (hw : w_J2_add_2 post  b0 x1 x2 x3 h) : Mt l E yJ2_add_2 (ws_ yJ2_add_2 cJ2_add_2 4 none) r_J2_add_2 [va_rf (some b0), va_rf x1, va_rf x2, .int x3] h (vpv (fun (h' : AH) => post h')) := v_entry (by decide +kernel) (by cases x1 <;> cases x2 <;> exact (Nat.le_of_ble_eq_true rfl)) (by cases x1 <;> cases x2 <;> exact rfl) (fun _ => e_J2_add_2 hw)
/-! J2_add -/
abbrev r_J2_add : Room := { frames := 7, cells := 1, slots := 63, locals := 207 }
theorem n_J2_add : vdn yJ2_add 1 := ⟨by decide +kernel, by decide +kernel, by decide +kernel⟩
def w_J2_add (post : (Int32) → (AH) → Prop) (b0 : Nat) (x1 : Option Nat) (h : AH) : Prop :=
 (∃ (fs_1 : List Value) (z_4 : Int32), h b0 = some (.inr (2, fs_1)) ∧ fs_1[0]? = some (.int z_4) ∧ (∃ fs_5 : List Value, h b0 = some (.inr (2, fs_5)) ∧ 0 < fs_5.length ∧ ∀ h_8 : AH, h_8 = va_up h b0 (some (.inr (2, fs_5.set 0 (.int (z_4 + (nI 1)))))) → (∃ (fs_9 : List Value) (r_12 : Option Nat), h_8 b0 = some (.inr (2, fs_9)) ∧ fs_9[1]? = some (va_rf r_12) ∧ (∃ (fs_13 : List Value) (z_16 : Int32), h_8 b0 = some (.inr (2, fs_13)) ∧ fs_13[2]? = some (.int z_16) ∧ (∃ fs_20 : List Value, h_8 b0 = some (.inr (2, fs_20)) ∧ (0 + 1 ≤ 1 ∧ 0 + 63 ≤ 63 ∧ (w_J2_add_2 (fun (h_17 : AH) => (post (nI 1) h_17)) b0 x1 r_12 z_16 h_8)))))))
theorem e_J2_add {post : (Int32) → (AH) → Prop}   {b0 : Nat} {x1 : Option Nat} {h : AH}  (hw : w_J2_add post  b0 x1 h) : VV l E X cJ2_add RJ2 "add" 2 r_J2_add (some .boolean) (vpi (fun (r : Int32) (h' : AH) => post r h')) h 0 0 0 [(0, va_rf (some b0)), (1, va_rf x1)] [] := by
  refine v_aload_n (q := 0) dJ2_add_0 rfl rfl ?_
  refine v_dup dJ2_add_1 (v_rf1 _) ?_
  obtain ⟨fs_1, z_4, e_2, e_3, hw⟩ := hw
  refine v_getS in_J2 (ci := 2) rfl 0 (Nat.le_of_ble_eq_true rfl) q181 q182 dJ2_add_2 e_2 e_3 ?_
  refine v_iconst dJ2_add_5 ic_1 ?_
  refine v_iadd dJ2_add_6 ?_
  obtain ⟨fs_5, e_6, e_7, hw⟩ := hw
  obtain ⟨h_8, eh_8⟩ : ∃ z9 : AH, z9 = va_up h b0 (some (.inr (2, fs_5.set 0 (.int (z_4 + (nI 1)))))) := ⟨_, rfl⟩
  replace hw := hw h_8 eh_8
  refine v_putS in_J2 (ci := 2) rfl 0 (Nat.le_of_ble_eq_true rfl) tyJ2 tyJ2_ok nmJ2 q181 q182 rfl rfl rfl rfl dJ2_add_7 e_6 e_7 ?_
  rw [← eh_8]
  refine v_aload_n (q := 0) dJ2_add_10 rfl rfl ?_
  refine v_aload_n (q := 1) dJ2_add_11 rfl rfl ?_
  refine v_aload_n (q := 0) dJ2_add_12 rfl rfl ?_
  obtain ⟨fs_9, r_12, e_10, e_11, hw⟩ := hw
  refine v_get in_J2 (ci := 2) rfl 1 (Nat.le_of_ble_eq_true rfl) q178 rfl dJ2_add_13 e_10 e_11 ?_
  refine v_aload_n (q := 0) dJ2_add_16 rfl rfl ?_
  obtain ⟨fs_13, z_16, e_14, e_15, hw⟩ := hw
  refine v_get in_J2 (ci := 2) rfl 2 (Nat.le_of_ble_eq_true rfl) q179 rfl dJ2_add_17 e_14 e_15 ?_
  obtain ⟨fs_20, e_21, hw⟩ := hw
  obtain ⟨e_18, e_19, hw⟩ := hw
  refine v_callV q449 q451 qs1 q108 q452 (ci := 2) rfl e_21 n_J2_add_2 ⟨Nat.le_of_ble_eq_true rfl, Nat.le_of_ble_eq_true rfl⟩ [va_rf x1, va_rf r_12, .int z_16] [] (met_J2_add_2 hw) rfl (Nat.zero_le _) ⟨e_18, e_19⟩ dJ2_add_20 rfl (v_kv (fun h_17 hv => ?_))
  clear hw
  have hw := hv
  clear hv
  refine v_iconst dJ2_add_23 ic_1 ?_
  exact v_zret dJ2_add_24 rfl rfl ⟨_, rfl, hw⟩
theorem met_J2_add {post : (Int32) → (AH) → Prop}   {b0 : Nat} {x1 : Option Nat} {h : AH}  (hw : w_J2_add post  b0 x1 h) : Mt l E yJ2_add (ws_ yJ2_add cJ2_add 2 (some .boolean)) r_J2_add [va_rf (some b0), va_rf x1] h (vpi (fun (r : Int32) (h' : AH) => post r h')) := v_entry (by decide +kernel) (by cases x1 <;> exact (Nat.le_of_ble_eq_true rfl)) (by cases x1 <;> exact rfl) (fun _ => e_J2_add hw)
/-! J7_checkIndex -/
abbrev r_J7_checkIndex : Room := { frames := 0, cells := 0, slots := 0, locals := 0 }
theorem n_J7_checkIndex : vdn yJ7_checkIndex 3 := ⟨by decide +kernel, by decide +kernel, by decide +kernel⟩
def w_J7_checkIndex (post : (Int32) → Prop) (x0 : Int32) (x1 : Int32) (x2 : Option Nat) : Prop :=
 ((x0 < 0 → False) ∧ (¬ x0 < 0 → ((x0 < x1 → (post x0)) ∧ (¬ x0 < x1 → False))))
theorem e_J7_checkIndex {post : (Int32) → Prop}   {x0 : Int32} {x1 : Int32} {x2 : Option Nat} {h : AH}  (hw : w_J7_checkIndex post  x0 x1 x2) : VV l E X cJ7_checkIndex RJ7 "checkIndex" 3 r_J7_checkIndex (some .int) (vpi (fun (r : Int32) (h' : AH) => h' = h ∧ post r)) h 0 0 0 [(0, .int x0), (1, .int x1), (2, va_rf x2)] [] := by
  refine v_iload_n (q := 0) dJ7_checkIndex_0 rfl rfl ?_
  obtain ⟨hw_3, hw_4⟩ := hw
  refine v_if_lt (tgt := 9) dJ7_checkIndex_1 (by decide) (fun c_1 => ?_) (fun c_2 => ?_)
  · have hw := hw_3 c_1
    exact hw.elim
  · have hw := hw_4 c_2
    refine v_iload_n (q := 0) dJ7_checkIndex_4 rfl rfl ?_
    refine v_iload_n (q := 1) dJ7_checkIndex_5 rfl rfl ?_
    obtain ⟨hw_7, hw_8⟩ := hw
    refine v_icmp_lt (tgt := 16) dJ7_checkIndex_6 (by decide) (fun c_5 => ?_) (fun c_6 => ?_)
    · have hw := hw_7 c_5
      refine v_iload_n (q := 0) dJ7_checkIndex_16 rfl rfl ?_
      exact v_iret dJ7_checkIndex_17 rfl ⟨_, rfl, rfl, hw⟩
    · have hw := hw_8 c_6
      exact hw.elim
theorem met_J7_checkIndex {post : (Int32) → Prop}   {x0 : Int32} {x1 : Int32} {x2 : Option Nat} {h : AH}  (hw : w_J7_checkIndex post  x0 x1 x2) : Mt l E yJ7_checkIndex (ws_ yJ7_checkIndex cJ7_checkIndex 3 (some .int)) r_J7_checkIndex [.int x0, .int x1, va_rf x2] h (vpi (fun (r : Int32) (h' : AH) => h' = h ∧ post r)) := v_entry (by decide +kernel) (by cases x2 <;> exact (Nat.le_of_ble_eq_true rfl)) (by cases x2 <;> exact rfl) (fun _ => e_J7_checkIndex hw)
/-! J6_checkIndex -/
abbrev r_J6_checkIndex : Room := { frames := 1, cells := 0, slots := 0, locals := 22 }
theorem n_J6_checkIndex : vdn yJ6_checkIndex 2 := ⟨by decide +kernel, by decide +kernel, by decide +kernel⟩
def w_J6_checkIndex (post : (Int32) → Prop) (x0 : Int32) (x1 : Int32) : Prop :=
 (w_J7_checkIndex (fun (z_1 : Int32) => (post z_1)) x0 x1 none)
theorem e_J6_checkIndex {post : (Int32) → Prop}   {x0 : Int32} {x1 : Int32} {h : AH}  (hw : w_J6_checkIndex post  x0 x1) : VV l E X cJ6_checkIndex RJ6 "checkIndex" 2 r_J6_checkIndex (some .int) (vpi (fun (r : Int32) (h' : AH) => h' = h ∧ post r)) h 0 0 0 [(0, .int x0), (1, .int x1)] [] := by
  refine v_iload_n (q := 0) dJ6_checkIndex_0 rfl rfl ?_
  refine v_iload_n (q := 1) dJ6_checkIndex_1 rfl rfl ?_
  refine v_null dJ6_checkIndex_2 ?_
  refine v_callS q584 q585 q122 q586 n_J7_checkIndex ⟨Nat.le_of_ble_eq_true rfl, Nat.le_of_ble_eq_true rfl⟩ [.int x0, .int x1, va_rf none] [] (met_J7_checkIndex hw) rfl (Nat.zero_le _) ⟨Nat.le_refl _, Nat.le_refl _⟩ dJ6_checkIndex_3 rfl (v_ki (fun z_1 h1 hv => ?_))
  clear hw
  obtain ⟨e9, hw⟩ := hv
  refine v_heap e9 ?_
  clear e9
  exact v_iret dJ6_checkIndex_6 rfl ⟨_, rfl, rfl, hw⟩
theorem met_J6_checkIndex {post : (Int32) → Prop}   {x0 : Int32} {x1 : Int32} {h : AH}  (hw : w_J6_checkIndex post  x0 x1) : Mt l E yJ6_checkIndex (ws_ yJ6_checkIndex cJ6_checkIndex 2 (some .int)) r_J6_checkIndex [.int x0, .int x1] h (vpi (fun (r : Int32) (h' : AH) => h' = h ∧ post r)) := v_entry (by decide +kernel) (Nat.le_of_ble_eq_true rfl) rfl (fun _ => e_J6_checkIndex hw)
/-! J2_elementData -/
abbrev r_J2_elementData : Room := { frames := 0, cells := 0, slots := 0, locals := 0 }
theorem n_J2_elementData : vdn yJ2_elementData 1 := ⟨by decide +kernel, by decide +kernel, by decide +kernel⟩
def w_J2_elementData (post : (Option Nat) → Prop) (b0 : Nat) (x1 : Int32) (h : AH) : Prop :=
 (∃ (fs_1 : List Value) (r_4 : Option Nat), h b0 = some (.inr (2, fs_1)) ∧ fs_1[1]? = some (va_rf r_4) ∧ (∃ a_5 : Nat, r_4 = some a_5 ∧ (∃ (N_6 : Nat) (g_7 : Nat → Option Nat), h a_5 = some (.inl (5, N_6, .inr (.inr (.inr (.inr g_7))))) ∧ vp_in x1 N_6 ∧ ∀ r_10 : Option Nat, r_10 = g_7 (x1).toNatClampNeg → (post r_10))))
theorem e_J2_elementData {post : (Option Nat) → Prop}   {b0 : Nat} {x1 : Int32} {h : AH}  (hw : w_J2_elementData post  b0 x1 h) : VV l E X cJ2_elementData RJ2 "elementData" 2 r_J2_elementData (some (.object "java/lang/Object")) (vpq (fun (r : Option Nat) (h' : AH) => h' = h ∧ post r)) h 0 0 0 [(0, va_rf (some b0)), (1, .int x1)] [] := by
  refine v_aload_n (q := 0) dJ2_elementData_0 rfl rfl ?_
  obtain ⟨fs_1, r_4, e_2, e_3, hw⟩ := hw
  refine v_get in_J2 (ci := 2) rfl 1 (Nat.le_of_ble_eq_true rfl) q178 rfl dJ2_elementData_1 e_2 e_3 ?_
  refine v_iload_n (q := 1) dJ2_elementData_4 rfl rfl ?_
  obtain ⟨a_5, ea_5, hw⟩ := hw
  subst ea_5
  obtain ⟨N_6, g_7, e_8, hi_9, hw⟩ := hw
  refine v_aaldO dJ2_elementData_5 e_8 hi_9 ?_
  refine v_topq (fun r_10 er_10 => ?_)
  replace hw := hw r_10 er_10
  exact v_aret dJ2_elementData_6 rfl (Or.inl ⟨_, rfl⟩) ⟨_, rfl, rfl, hw⟩
theorem met_J2_elementData {post : (Option Nat) → Prop}   {b0 : Nat} {x1 : Int32} {h : AH}  (hw : w_J2_elementData post  b0 x1 h) : Mt l E yJ2_elementData (ws_ yJ2_elementData cJ2_elementData 2 (some (.object "java/lang/Object"))) r_J2_elementData [va_rf (some b0), .int x1] h (vpq (fun (r : Option Nat) (h' : AH) => h' = h ∧ post r)) := v_entry (by decide +kernel) (Nat.le_of_ble_eq_true rfl) rfl (fun _ => e_J2_elementData hw)
/-! J2_get -/
abbrev r_J2_get : Room := { frames := 2, cells := 0, slots := 0, locals := 43 }
theorem n_J2_get : vdn yJ2_get 1 := ⟨by decide +kernel, by decide +kernel, by decide +kernel⟩
def w_J2_get (post : (Option Nat) → Prop) (b0 : Nat) (x1 : Int32) (h : AH) : Prop :=
 (∃ (fs_1 : List Value) (z_4 : Int32), h b0 = some (.inr (2, fs_1)) ∧ fs_1[2]? = some (.int z_4) ∧ (w_J6_checkIndex (fun (z_5 : Int32) => (∃ fs_7 : List Value, h b0 = some (.inr (2, fs_7)) ∧ (w_J2_elementData (fun (r_6 : Option Nat) => (post r_6)) b0 x1 h))) x1 z_4))
theorem e_J2_get {post : (Option Nat) → Prop}   {b0 : Nat} {x1 : Int32} {h : AH}  (hw : w_J2_get post  b0 x1 h) : VV l E X cJ2_get RJ2 "get" 2 r_J2_get (some (.object "java/lang/Object")) (vpq (fun (r : Option Nat) (h' : AH) => h' = h ∧ post r)) h 0 0 0 [(0, va_rf (some b0)), (1, .int x1)] [] := by
  refine v_iload_n (q := 1) dJ2_get_0 rfl rfl ?_
  refine v_aload_n (q := 0) dJ2_get_1 rfl rfl ?_
  obtain ⟨fs_1, z_4, e_2, e_3, hw⟩ := hw
  refine v_get in_J2 (ci := 2) rfl 2 (Nat.le_of_ble_eq_true rfl) q179 rfl dJ2_get_2 e_2 e_3 ?_
  refine v_callS q581 q582 q121 q583 n_J6_checkIndex ⟨Nat.le_of_ble_eq_true rfl, Nat.le_of_ble_eq_true rfl⟩ [.int x1, .int z_4] [] (met_J6_checkIndex hw) rfl (Nat.zero_le _) ⟨Nat.le_refl _, Nat.le_refl _⟩ dJ2_get_5 rfl (v_ki (fun z_5 h1 hv => ?_))
  clear hw
  obtain ⟨e9, hw⟩ := hv
  refine v_heap e9 ?_
  clear e9
  refine v_pop dJ2_get_8 rfl ?_
  refine v_aload_n (q := 0) dJ2_get_9 rfl rfl ?_
  refine v_iload_n (q := 1) dJ2_get_10 rfl rfl ?_
  obtain ⟨fs_7, e_8, hw⟩ := hw
  refine v_callV q587 q588 q589 q108 q590 (ci := 2) rfl e_8 n_J2_elementData ⟨Nat.le_of_ble_eq_true rfl, Nat.le_of_ble_eq_true rfl⟩ [.int x1] [] (met_J2_elementData hw) rfl (Nat.zero_le _) ⟨Nat.le_refl _, Nat.le_refl _⟩ dJ2_get_11 rfl (v_kq (fun r_6 h1 hv => ?_))
  clear hw
  obtain ⟨e9, hw⟩ := hv
  refine v_heap e9 ?_
  clear e9
  exact v_aret dJ2_get_14 rfl (Or.inl ⟨_, rfl⟩) ⟨_, rfl, rfl, hw⟩
theorem met_J2_get {post : (Option Nat) → Prop}   {b0 : Nat} {x1 : Int32} {h : AH}  (hw : w_J2_get post  b0 x1 h) : Mt l E yJ2_get (ws_ yJ2_get cJ2_get 2 (some (.object "java/lang/Object"))) r_J2_get [va_rf (some b0), .int x1] h (vpq (fun (r : Option Nat) (h' : AH) => h' = h ∧ post r)) := v_entry (by decide +kernel) (Nat.le_of_ble_eq_true rfl) rfl (fun _ => e_J2_get hw)
/-! J2_isEmpty -/
abbrev r_J2_isEmpty : Room := { frames := 0, cells := 0, slots := 0, locals := 0 }
theorem n_J2_isEmpty : vdn yJ2_isEmpty 0 := ⟨by decide +kernel, by decide +kernel, by decide +kernel⟩
def w_J2_isEmpty (post : (Int32) → Prop) (b0 : Nat) (h : AH) : Prop :=
 (∃ (fs_1 : List Value) (z_4 : Int32), h b0 = some (.inr (2, fs_1)) ∧ fs_1[2]? = some (.int z_4) ∧ ((¬ z_4 = 0 → (post (nI 0))) ∧ (z_4 = 0 → (post (nI 1)))))
theorem e_J2_isEmpty {post : (Int32) → Prop}   {b0 : Nat} {h : AH}  (hw : w_J2_isEmpty post  b0 h) : VV l E X cJ2_isEmpty RJ2 "isEmpty" 1 r_J2_isEmpty (some .boolean) (vpi (fun (r : Int32) (h' : AH) => h' = h ∧ post r)) h 0 0 0 [(0, va_rf (some b0))] [] := by
  refine v_aload_n (q := 0) dJ2_isEmpty_0 rfl rfl ?_
  obtain ⟨fs_1, z_4, e_2, e_3, hw⟩ := hw
  refine v_get in_J2 (ci := 2) rfl 2 (Nat.le_of_ble_eq_true rfl) q179 rfl dJ2_isEmpty_1 e_2 e_3 ?_
  obtain ⟨hw_7, hw_8⟩ := hw
  refine v_if_ne (tgt := 11) dJ2_isEmpty_4 (by decide) (fun c_5 => ?_) (fun c_6 => ?_)
  · have hw := hw_7 c_5
    refine v_iconst dJ2_isEmpty_11 ic_0 ?_
    exact v_zret dJ2_isEmpty_12 rfl rfl ⟨_, rfl, rfl, hw⟩
  · have hw := hw_8 c_6
    refine v_iconst dJ2_isEmpty_7 ic_1 ?_
    refine v_goto (tgt := 12) dJ2_isEmpty_8 (by decide) ?_
    exact v_zret dJ2_isEmpty_12 rfl rfl ⟨_, rfl, rfl, hw⟩
theorem met_J2_isEmpty {post : (Int32) → Prop}   {b0 : Nat} {h : AH}  (hw : w_J2_isEmpty post  b0 h) : Mt l E yJ2_isEmpty (ws_ yJ2_isEmpty cJ2_isEmpty 1 (some .boolean)) r_J2_isEmpty [va_rf (some b0)] h (vpi (fun (r : Int32) (h' : AH) => h' = h ∧ post r)) := v_entry (by decide +kernel) (Nat.le_of_ble_eq_true rfl) rfl (fun _ => e_J2_isEmpty hw)
/-! J2_fastRemove -/
abbrev r_J2_fastRemove : Room := { frames := 1, cells := 0, slots := 0, locals := 40 }
theorem n_J2_fastRemove : vdn yJ2_fastRemove 2 := ⟨by decide +kernel, by decide +kernel, by decide +kernel⟩
def w_J2_fastRemove_34 (post : (AH) → Prop) (b0 : Nat) (x1 : Option Nat) (x2 : Int32) (x3 : Int32) (h : AH) : Prop :=
 (∃ fs_1 : List Value, h b0 = some (.inr (2, fs_1)) ∧ 2 < fs_1.length ∧ ∀ h_4 : AH, h_4 = va_up h b0 (some (.inr (2, fs_1.set 2 (.int x3)))) → (∃ a_5 : Nat, x1 = some a_5 ∧ (∃ (N_6 : Nat) (g_7 : Nat → Option Nat), h_4 a_5 = (some (.inl (5, N_6, .inr (.inr (.inr (.inr g_7)))))) ∧ vp_in x3 N_6 ∧ ∀ h_10 : AH, h_10 = va_up h_4 a_5 (some (.inl (5, N_6, .inr (.inr (.inr (.inr (va_up g_7 (x3).toNatClampNeg none))))))) → (post h_10))))
def w_J2_fastRemove (post : (AH) → Prop) (b0 : Nat) (x1 : Option Nat) (x2 : Int32) (h : AH) : Prop :=
 (∃ (fs_11 : List Value) (z_14 : Int32), h b0 = some (.inr (2, fs_11)) ∧ fs_11[0]? = some (.int z_14) ∧ (∃ fs_15 : List Value, h b0 = some (.inr (2, fs_15)) ∧ 0 < fs_15.length ∧ ∀ h_18 : AH, h_18 = va_up h b0 (some (.inr (2, fs_15.set 0 (.int (z_14 + (nI 1)))))) → (∃ (fs_19 : List Value) (z_22 : Int32), h_18 b0 = some (.inr (2, fs_19)) ∧ fs_19[2]? = some (.int z_22) ∧ (∀ z_23 : Int32, z_23 = (z_22 - (nI 1)) → (((z_22 - (nI 1)) ≤ x2 → (w_J2_fastRemove_34 post b0 x1 x2 z_23 h_18)) ∧ (¬ (z_22 - (nI 1)) ≤ x2 → (∃ a_28 : Nat, x1 = some a_28 ∧ (∃ (N_29 : Nat) (g_30 : Nat → Option Nat) (N_32 : Nat) (g_33 : Nat → Option Nat), h_18 a_28 = (some (.inl (5, N_29, .inr (.inr (.inr (.inr g_30)))))) ∧ h_18 a_28 = (some (.inl (5, N_32, .inr (.inr (.inr (.inr g_33)))))) ∧ (¬ (x2 + (nI 1)) < 0 ∧ ¬ x2 < 0 ∧ ¬ (z_23 - x2) < 0 ∧ ((x2 + (nI 1))).toNatClampNeg + ((z_23 - x2)).toNatClampNeg ≤ N_29 ∧ (x2).toNatClampNeg + ((z_23 - x2)).toNatClampNeg ≤ N_32 ∧ (∀ i : Nat, i < ((z_23 - x2)).toNatClampNeg → ∀ y : Nat, g_30 (((x2 + (nI 1))).toNatClampNeg + i) = some y → ∃ (ci : Nat) (fs : List Value), vobj ci = true ∧ h_18 y = some (.inr (ci, fs)))) ∧ ∀ h_36 : AH, h_36 = va_up h_18 a_28 (some (.inl (5, N_32, .inr (.inr (.inr (.inr (va_cpy g_30 g_33 ((x2 + (nI 1))).toNatClampNeg (x2).toNatClampNeg ((z_23 - x2)).toNatClampNeg))))))) → (w_J2_fastRemove_34 post b0 x1 x2 z_23 h_36)))))))))
theorem b_J2_fastRemove_34 {post : (AH) → Prop}   {b0 : Nat} {x1 : Option Nat} {x2 : Int32}    (x3 : Int32) (h : AH) (hw : w_J2_fastRemove_34 post b0 x1 x2 x3 h) : VV l E X cJ2_fastRemove RJ2 "fastRemove" 4 r_J2_fastRemove none (vpv (fun (h' : AH) => post h')) h 0 0 34 [(0, va_rf (some b0)), (1, va_rf x1), (2, .int x2), (3, .int x3)] [] := by
  refine v_aload_n (q := 1) dJ2_fastRemove_34 rfl rfl ?_
  refine v_aload_n (q := 0) dJ2_fastRemove_35 rfl rfl ?_
  refine v_iload_n (q := 3) dJ2_fastRemove_36 rfl rfl ?_
  refine v_dup_x1 dJ2_fastRemove_37 rfl (v_rf1 _) ?_
  obtain ⟨fs_1, e_2, e_3, hw⟩ := hw
  obtain ⟨h_4, eh_4⟩ : ∃ z9 : AH, z9 = va_up h b0 (some (.inr (2, fs_1.set 2 (.int x3)))) := ⟨_, rfl⟩
  replace hw := hw h_4 eh_4
  refine v_put in_J2 (ci := 2) rfl 2 (Nat.le_of_ble_eq_true rfl) tyJ2 tyJ2_ok nmJ2 q179 rfl rfl rfl rfl rfl dJ2_fastRemove_38 e_2 e_3 ?_
  rw [← eh_4]
  refine v_null dJ2_fastRemove_41 ?_
  obtain ⟨a_5, ea_5, hw⟩ := hw
  subst ea_5
  obtain ⟨N_6, g_7, e_8, hi_9, hw⟩ := hw
  obtain ⟨h_10, eh_10⟩ : ∃ z9 : AH, z9 = va_up h_4 a_5 (some (.inl (5, N_6, .inr (.inr (.inr (.inr (va_up g_7 (x3).toNatClampNeg none))))))) := ⟨_, rfl⟩
  replace hw := hw h_10 eh_10
  refine v_aastNO dJ2_fastRemove_42 e_8 hi_9 ?_
  rw [← eh_10]
  exact v_vret dJ2_fastRemove_43 rfl ⟨rfl, hw⟩
theorem e_J2_fastRemove {post : (AH) → Prop}   {b0 : Nat} {x1 : Option Nat} {x2 : Int32} {h : AH}  (hw : w_J2_fastRemove post  b0 x1 x2 h) : VV l E X cJ2_fastRemove RJ2 "fastRemove" 4 r_J2_fastRemove none (vpv (fun (h' : AH) => post h')) h 0 0 0 [(0, va_rf (some b0)), (1, va_rf x1), (2, .int x2)] [] := by
  refine v_aload_n (q := 0) dJ2_fastRemove_0 rfl rfl ?_
  refine v_dup dJ2_fastRemove_1 (v_rf1 _) ?_
  obtain ⟨fs_11, z_14, e_12, e_13, hw⟩ := hw
  refine v_getS in_J2 (ci := 2) rfl 0 (Nat.le_of_ble_eq_true rfl) q181 q182 dJ2_fastRemove_2 e_12 e_13 ?_
  refine v_iconst dJ2_fastRemove_5 ic_1 ?_
  refine v_iadd dJ2_fastRemove_6 ?_
  obtain ⟨fs_15, e_16, e_17, hw⟩ := hw
  obtain ⟨h_18, eh_18⟩ : ∃ z9 : AH, z9 = va_up h b0 (some (.inr (2, fs_15.set 0 (.int (z_14 + (nI 1)))))) := ⟨_, rfl⟩
  replace hw := hw h_18 eh_18
  refine v_putS in_J2 (ci := 2) rfl 0 (Nat.le_of_ble_eq_true rfl) tyJ2 tyJ2_ok nmJ2 q181 q182 rfl rfl rfl rfl dJ2_fastRemove_7 e_16 e_17 ?_
  rw [← eh_18]
  refine v_aload_n (q := 0) dJ2_fastRemove_10 rfl rfl ?_
  obtain ⟨fs_19, z_22, e_20, e_21, hw⟩ := hw
  refine v_get in_J2 (ci := 2) rfl 2 (Nat.le_of_ble_eq_true rfl) q179 rfl dJ2_fastRemove_11 e_20 e_21 ?_
  refine v_iconst dJ2_fastRemove_14 ic_1 ?_
  refine v_isub dJ2_fastRemove_15 ?_
  refine v_dup dJ2_fastRemove_16 rfl ?_
  refine v_topi (fun z_23 e_23 => ?_)
  replace hw := hw z_23 e_23
  refine v_istore_n (lv1 := [(3, .int z_23), (0, va_rf (some b0)), (1, va_rf x1), (2, .int x2)]) dJ2_fastRemove_17 rfl (Nat.le_of_ble_eq_true rfl) rfl ?_
  refine v_iload_n (q := 3) dJ2_fastRemove_18 rfl rfl ?_
  obtain ⟨hw_26, hw_27⟩ := hw
  refine v_icmp_le (tgt := 34) dJ2_fastRemove_19 (by decide) (fun c_24 => ?_) (fun c_25 => ?_)
  · have hw := hw_26 c_24
    refine v_sub [1, 2, 3, 0] rfl ?_
    exact b_J2_fastRemove_34 z_23 h_18 hw
  · have hw := hw_27 c_25
    refine v_aload_n (q := 2) dJ2_fastRemove_22 rfl rfl ?_
    refine v_iload_n (q := 3) dJ2_fastRemove_23 rfl rfl ?_
    refine v_iconst dJ2_fastRemove_24 ic_1 ?_
    refine v_iadd dJ2_fastRemove_25 ?_
    refine v_aload_n (q := 2) dJ2_fastRemove_26 rfl rfl ?_
    refine v_iload_n (q := 3) dJ2_fastRemove_27 rfl rfl ?_
    refine v_iload_n (q := 0) dJ2_fastRemove_28 rfl rfl ?_
    refine v_iload_n (q := 3) dJ2_fastRemove_29 rfl rfl ?_
    refine v_isub dJ2_fastRemove_30 ?_
    obtain ⟨a_28, ea_28, hw⟩ := hw
    subst ea_28
    obtain ⟨N_29, g_30, N_32, g_33, e_31, e_34, e_35, hw⟩ := hw
    obtain ⟨h_36, eh_36⟩ : ∃ z9 : AH, z9 = va_up h_18 a_28 (some (.inl (5, N_32, .inr (.inr (.inr (.inr (va_cpy g_30 g_33 ((x2 + (nI 1))).toNatClampNeg (x2).toNatClampNeg ((z_23 - x2)).toNatClampNeg))))))) := ⟨_, rfl⟩
    replace hw := hw h_36 eh_36
    refine v_copyO q998 q518 q517 q118 (Nat.zero_le _) (Nat.le_of_ble_eq_true rfl) (Nat.le_of_ble_eq_true rfl) dJ2_fastRemove_31 e_31 e_34 e_35 ?_
    rw [← eh_36]
    refine v_sub [1, 2, 3, 0] rfl ?_
    exact b_J2_fastRemove_34 z_23 h_36 hw
theorem met_J2_fastRemove {post : (AH) → Prop}   {b0 : Nat} {x1 : Option Nat} {x2 : Int32} {h : AH}  (hw : w_J2_fastRemove post  b0 x1 x2 h) : Mt l E yJ2_fastRemove (ws_ yJ2_fastRemove cJ2_fastRemove 4 none) r_J2_fastRemove [va_rf (some b0), va_rf x1, .int x2] h (vpv (fun (h' : AH) => post h')) := v_entry (by decide +kernel) (by cases x1 <;> exact (Nat.le_of_ble_eq_true rfl)) (by cases x1 <;> exact rfl) (fun _ => e_J2_fastRemove hw)
/-! J2_remove -/
abbrev r_J2_remove : Room := { frames := 2, cells := 0, slots := 0, locals := 63 }
theorem n_J2_remove : vdn yJ2_remove 1 := ⟨by decide +kernel, by decide +kernel, by decide +kernel⟩
def w_J2_remove (post : (Option Nat) → (AH) → Prop) (b0 : Nat) (x1 : Int32) (h : AH) : Prop :=
 (∃ (fs_1 : List Value) (z_4 : Int32), h b0 = some (.inr (2, fs_1)) ∧ fs_1[2]? = some (.int z_4) ∧ (w_J6_checkIndex (fun (z_5 : Int32) => (∃ (fs_6 : List Value) (r_9 : Option Nat), h b0 = some (.inr (2, fs_6)) ∧ fs_6[1]? = some (va_rf r_9) ∧ (∃ a_10 : Nat, r_9 = some a_10 ∧ (∃ (N_11 : Nat) (g_12 : Nat → Option Nat), h a_10 = some (.inl (5, N_11, .inr (.inr (.inr (.inr g_12))))) ∧ vp_in x1 N_11 ∧ ∀ r_15 : Option Nat, r_15 = g_12 (x1).toNatClampNeg → (∃ fs_17 : List Value, h b0 = some (.inr (2, fs_17)) ∧ (w_J2_fastRemove (fun (h_16 : AH) => (post r_15 h_16)) b0 (some a_10) x1 h)))))) x1 z_4))
theorem e_J2_remove {post : (Option Nat) → (AH) → Prop}   {b0 : Nat} {x1 : Int32} {h : AH}  (hw : w_J2_remove post  b0 x1 h) : VV l E X cJ2_remove RJ2 "remove" 4 r_J2_remove (some (.object "java/lang/Object")) (vpq (fun (r : Option Nat) (h' : AH) => post r h')) h 0 0 0 [(0, va_rf (some b0)), (1, .int x1)] [] := by
  refine v_iload_n (q := 1) dJ2_remove_0 rfl rfl ?_
  refine v_aload_n (q := 0) dJ2_remove_1 rfl rfl ?_
  obtain ⟨fs_1, z_4, e_2, e_3, hw⟩ := hw
  refine v_get in_J2 (ci := 2) rfl 2 (Nat.le_of_ble_eq_true rfl) q179 rfl dJ2_remove_2 e_2 e_3 ?_
  refine v_callS q581 q582 q121 q583 n_J6_checkIndex ⟨Nat.le_of_ble_eq_true rfl, Nat.le_of_ble_eq_true rfl⟩ [.int x1, .int z_4] [] (met_J6_checkIndex hw) rfl (Nat.zero_le _) ⟨Nat.le_refl _, Nat.le_refl _⟩ dJ2_remove_5 rfl (v_ki (fun z_5 h1 hv => ?_))
  clear hw
  obtain ⟨e9, hw⟩ := hv
  refine v_heap e9 ?_
  clear e9
  refine v_pop dJ2_remove_8 rfl ?_
  refine v_aload_n (q := 0) dJ2_remove_9 rfl rfl ?_
  obtain ⟨fs_6, r_9, e_7, e_8, hw⟩ := hw
  refine v_get in_J2 (ci := 2) rfl 1 (Nat.le_of_ble_eq_true rfl) q178 rfl dJ2_remove_10 e_7 e_8 ?_
  refine v_astore_n (lv1 := [(2, va_rf r_9), (0, va_rf (some b0)), (1, .int x1)]) dJ2_remove_13 rfl (Nat.le_of_ble_eq_true rfl) rfl ?_
  refine v_aload_n (q := 0) dJ2_remove_14 rfl rfl ?_
  refine v_iload_n (q := 2) dJ2_remove_15 rfl rfl ?_
  obtain ⟨a_10, ea_10, hw⟩ := hw
  subst ea_10
  obtain ⟨N_11, g_12, e_13, hi_14, hw⟩ := hw
  refine v_aaldO dJ2_remove_16 e_13 hi_14 ?_
  refine v_topq (fun r_15 er_15 => ?_)
  replace hw := hw r_15 er_15
  refine v_astore_n (lv1 := [(3, va_rf r_15), (2, va_rf (some a_10)), (0, va_rf (some b0)), (1, .int x1)]) dJ2_remove_17 rfl (Nat.le_of_ble_eq_true rfl) rfl ?_
  refine v_aload_n (q := 2) dJ2_remove_18 rfl rfl ?_
  refine v_aload_n (q := 1) dJ2_remove_19 rfl rfl ?_
  refine v_iload_n (q := 3) dJ2_remove_20 rfl rfl ?_
  obtain ⟨fs_17, e_18, hw⟩ := hw
  refine v_callV q994 q996 qs30 q108 q997 (ci := 2) rfl e_18 n_J2_fastRemove ⟨Nat.le_of_ble_eq_true rfl, Nat.le_of_ble_eq_true rfl⟩ [va_rf (some a_10), .int x1] [] (met_J2_fastRemove hw) rfl (Nat.zero_le _) ⟨Nat.le_refl _, Nat.le_refl _⟩ dJ2_remove_21 rfl (v_kv (fun h_16 hv => ?_))
  clear hw
  have hw := hv
  clear hv
  refine v_aload_n (q := 0) dJ2_remove_24 rfl rfl ?_
  exact v_aret dJ2_remove_25 rfl (Or.inl ⟨_, rfl⟩) ⟨_, rfl, hw⟩
theorem met_J2_remove {post : (Option Nat) → (AH) → Prop}   {b0 : Nat} {x1 : Int32} {h : AH}  (hw : w_J2_remove post  b0 x1 h) : Mt l E yJ2_remove (ws_ yJ2_remove cJ2_remove 4 (some (.object "java/lang/Object"))) r_J2_remove [va_rf (some b0), .int x1] h (vpq (fun (r : Option Nat) (h' : AH) => post r h')) := v_entry (by decide +kernel) (Nat.le_of_ble_eq_true rfl) rfl (fun _ => e_J2_remove hw)
/-! J2_rangeCheckForAdd -/
abbrev r_J2_rangeCheckForAdd : Room := { frames := 0, cells := 0, slots := 0, locals := 0 }
theorem n_J2_rangeCheckForAdd : vdn yJ2_rangeCheckForAdd 1 := ⟨by decide +kernel, by decide +kernel, by decide +kernel⟩
def w_J2_rangeCheckForAdd (post : Prop) (b0 : Nat) (x1 : Int32) (h : AH) : Prop :=
 (∃ (fs_1 : List Value) (z_4 : Int32), h b0 = some (.inr (2, fs_1)) ∧ fs_1[2]? = some (.int z_4) ∧ ((z_4 < x1 → False) ∧ (¬ z_4 < x1 → ((0 ≤ x1 → (post)) ∧ (¬ 0 ≤ x1 → False)))))
theorem e_J2_rangeCheckForAdd {post : Prop}   {b0 : Nat} {x1 : Int32} {h : AH}  (hw : w_J2_rangeCheckForAdd post  b0 x1 h) : VV l E X cJ2_rangeCheckForAdd RJ2 "rangeCheckForAdd" 2 r_J2_rangeCheckForAdd none (vpv (fun (h' : AH) => h' = h ∧ post)) h 0 0 0 [(0, va_rf (some b0)), (1, .int x1)] [] := by
  refine v_iload_n (q := 1) dJ2_rangeCheckForAdd_0 rfl rfl ?_
  refine v_aload_n (q := 0) dJ2_rangeCheckForAdd_1 rfl rfl ?_
  obtain ⟨fs_1, z_4, e_2, e_3, hw⟩ := hw
  refine v_get in_J2 (ci := 2) rfl 2 (Nat.le_of_ble_eq_true rfl) q179 rfl dJ2_rangeCheckForAdd_2 e_2 e_3 ?_
  obtain ⟨hw_7, hw_8⟩ := hw
  refine v_icmp_gt (tgt := 12) dJ2_rangeCheckForAdd_5 (by decide) (fun c_5 => ?_) (fun c_6 => ?_)
  · have hw := hw_7 c_5
    exact hw.elim
  · have hw := hw_8 c_6
    refine v_iload_n (q := 1) dJ2_rangeCheckForAdd_8 rfl rfl ?_
    obtain ⟨hw_11, hw_12⟩ := hw
    refine v_if_ge (tgt := 25) dJ2_rangeCheckForAdd_9 (by decide) (fun c_9 => ?_) (fun c_10 => ?_)
    · have hw := hw_11 c_9
      exact v_vret dJ2_rangeCheckForAdd_25 rfl ⟨rfl, rfl, hw⟩
    · have hw := hw_12 c_10
      exact hw.elim
theorem met_J2_rangeCheckForAdd {post : Prop}   {b0 : Nat} {x1 : Int32} {h : AH}  (hw : w_J2_rangeCheckForAdd post  b0 x1 h) : Mt l E yJ2_rangeCheckForAdd (ws_ yJ2_rangeCheckForAdd cJ2_rangeCheckForAdd 2 none) r_J2_rangeCheckForAdd [va_rf (some b0), .int x1] h (vpv (fun (h' : AH) => h' = h ∧ post)) := v_entry (by decide +kernel) (Nat.le_of_ble_eq_true rfl) rfl (fun _ => e_J2_rangeCheckForAdd hw)
/-! J2_add_3 -/
abbrev r_J2_add_3 : Room := { frames := 6, cells := 1, slots := 63, locals := 184 }
theorem n_J2_add_3 : vdn yJ2_add_3 2 := ⟨by decide +kernel, by decide +kernel, by decide +kernel⟩
def w_J2_add_3_38 (post : (AH) → Prop) (b0 : Nat) (x1 : Int32) (x2 : Option Nat) (x3 : Int32) (x4 : Option Nat) (h : AH) (k : Nat) (n : Nat) : Prop :=
 (∃ a_1 : Nat, x4 = some a_1 ∧ (∃ (N_2 : Nat) (g_3 : Nat → Option Nat) (N_5 : Nat) (g_6 : Nat → Option Nat), h a_1 = (some (.inl (5, N_2, .inr (.inr (.inr (.inr g_3)))))) ∧ h a_1 = (some (.inl (5, N_5, .inr (.inr (.inr (.inr g_6)))))) ∧ (¬ x1 < 0 ∧ ¬ (x1 + (nI 1)) < 0 ∧ ¬ (x3 - x1) < 0 ∧ (x1).toNatClampNeg + ((x3 - x1)).toNatClampNeg ≤ N_2 ∧ ((x1 + (nI 1))).toNatClampNeg + ((x3 - x1)).toNatClampNeg ≤ N_5 ∧ (∀ i : Nat, i < ((x3 - x1)).toNatClampNeg → ∀ y : Nat, g_3 ((x1).toNatClampNeg + i) = some y → ∃ (ci : Nat) (fs : List Value), vobj ci = true ∧ h y = some (.inr (ci, fs)))) ∧ ∀ h_9 : AH, h_9 = va_up h a_1 (some (.inl (5, N_5, .inr (.inr (.inr (.inr (va_cpy g_3 g_6 (x1).toNatClampNeg ((x1 + (nI 1))).toNatClampNeg ((x3 - x1)).toNatClampNeg))))))) → (∃ a_15 : Nat, x2 = some a_15 ∧ (∃ (ci_18 : Nat) (fs_16 : List Value), vobj ci_18 = true ∧ h_9 a_15 = some (.inr (ci_18, fs_16)) ∧ ∃ (N_10 : Nat) (g_11 : Nat → Option Nat), h_9 a_1 = (some (.inl (5, N_10, .inr (.inr (.inr (.inr g_11)))))) ∧ vp_in x1 N_10 ∧ ∀ h_14 : AH, h_14 = va_up h_9 a_1 (some (.inl (5, N_10, .inr (.inr (.inr (.inr (va_up g_11 (x1).toNatClampNeg (some a_15)))))))) → (∃ fs_20 : List Value, h_14 b0 = some (.inr (2, fs_20)) ∧ 2 < fs_20.length ∧ ∀ h_23 : AH, h_23 = va_up h_14 b0 (some (.inr (2, fs_20.set 2 (.int (x3 + (nI 1)))))) → (post h_23))))))
def w_J2_add_3 (post : (AH) → Prop) (b0 : Nat) (x1 : Int32) (x2 : Option Nat) (h : AH) : Prop :=
 (∃ fs_54 : List Value, h b0 = some (.inr (2, fs_54)) ∧ (w_J2_rangeCheckForAdd (∃ (fs_25 : List Value) (z_28 : Int32), h b0 = some (.inr (2, fs_25)) ∧ fs_25[0]? = some (.int z_28) ∧ (∃ fs_29 : List Value, h b0 = some (.inr (2, fs_29)) ∧ 0 < fs_29.length ∧ ∀ h_32 : AH, h_32 = va_up h b0 (some (.inr (2, fs_29.set 0 (.int (z_28 + (nI 1)))))) → (∃ (fs_33 : List Value) (z_36 : Int32), h_32 b0 = some (.inr (2, fs_33)) ∧ fs_33[2]? = some (.int z_36) ∧ (∃ (fs_37 : List Value) (r_40 : Option Nat), h_32 b0 = some (.inr (2, fs_37)) ∧ fs_37[1]? = some (va_rf r_40) ∧ (∃ a_41 : Nat, r_40 = some a_41 ∧ (∃ y_42 : vp_A, h_32 a_41 = some (.inl (5, y_42)) ∧ ((¬ z_36 = (Int32.ofNat y_42.1) → (w_J2_add_3_38 post b0 x1 x2 z_36 (some a_41) h_32 0 0)) ∧ (z_36 = (Int32.ofNat y_42.1) → (∃ fs_52 : List Value, h_32 b0 = some (.inr (2, fs_52)) ∧ (0 + 1 ≤ 1 ∧ 0 + 63 ≤ 63 ∧ (w_J2_grow (fun (r_48 : Option Nat) (h_49 : AH) => (w_J2_add_3_38 post b0 x1 x2 z_36 r_48 h_49 (0 + 1) (0 + 63))) b0 h_32))))))))))) b0 x1 h))
theorem b_J2_add_3_38 {post : (AH) → Prop}   {b0 : Nat} {x1 : Int32} {x2 : Option Nat}    (x3 : Int32) (x4 : Option Nat) (h : AH) (k : Nat) (n : Nat) (hw : w_J2_add_3_38 post b0 x1 x2 x3 x4 h k n) : VV l E X cJ2_add_3 RJ2 "add" 5 r_J2_add_3 none (vpv (fun (h' : AH) => post h')) h k n 38 [(0, va_rf (some b0)), (1, .int x1), (2, va_rf x2), (3, .int x3), (4, va_rf x4)] [] := by
  refine v_aload (q := 4) dJ2_add_3_38 rfl ?_
  refine v_iload_n (q := 1) dJ2_add_3_40 rfl rfl ?_
  refine v_aload (q := 4) dJ2_add_3_41 rfl ?_
  refine v_iload_n (q := 1) dJ2_add_3_43 rfl rfl ?_
  refine v_iconst dJ2_add_3_44 ic_1 ?_
  refine v_iadd dJ2_add_3_45 ?_
  refine v_iload_n (q := 3) dJ2_add_3_46 rfl rfl ?_
  refine v_iload_n (q := 1) dJ2_add_3_47 rfl rfl ?_
  refine v_isub dJ2_add_3_48 ?_
  obtain ⟨a_1, ea_1, hw⟩ := hw
  subst ea_1
  obtain ⟨N_2, g_3, N_5, g_6, e_4, e_7, e_8, hw⟩ := hw
  obtain ⟨h_9, eh_9⟩ : ∃ z9 : AH, z9 = va_up h a_1 (some (.inl (5, N_5, .inr (.inr (.inr (.inr (va_cpy g_3 g_6 (x1).toNatClampNeg ((x1 + (nI 1))).toNatClampNeg ((x3 - x1)).toNatClampNeg))))))) := ⟨_, rfl⟩
  replace hw := hw h_9 eh_9
  refine v_copyO q998 q518 q517 q118 (Nat.zero_le _) (Nat.le_of_ble_eq_true rfl) (Nat.le_of_ble_eq_true rfl) dJ2_add_3_49 e_4 e_7 e_8 ?_
  rw [← eh_9]
  refine v_aload (q := 4) dJ2_add_3_52 rfl ?_
  refine v_iload_n (q := 1) dJ2_add_3_54 rfl rfl ?_
  refine v_aload_n (q := 2) dJ2_add_3_55 rfl rfl ?_
  obtain ⟨a_15, ea_15, hw⟩ := hw
  subst ea_15
  obtain ⟨ci_18, fs_16, e_19, e_17, N_10, g_11, e_12, hi_13, hw⟩ := hw
  obtain ⟨h_14, eh_14⟩ : ∃ z9 : AH, z9 = va_up h_9 a_1 (some (.inl (5, N_10, .inr (.inr (.inr (.inr (va_up g_11 (x1).toNatClampNeg (some a_15)))))))) := ⟨_, rfl⟩
  replace hw := hw h_14 eh_14
  refine v_aastOg e_19 dJ2_add_3_56 e_12 hi_13 e_17 ?_
  rw [← eh_14]
  refine v_aload_n (q := 0) dJ2_add_3_57 rfl rfl ?_
  refine v_iload_n (q := 3) dJ2_add_3_58 rfl rfl ?_
  refine v_iconst dJ2_add_3_59 ic_1 ?_
  refine v_iadd dJ2_add_3_60 ?_
  obtain ⟨fs_20, e_21, e_22, hw⟩ := hw
  obtain ⟨h_23, eh_23⟩ : ∃ z9 : AH, z9 = va_up h_14 b0 (some (.inr (2, fs_20.set 2 (.int (x3 + (nI 1)))))) := ⟨_, rfl⟩
  replace hw := hw h_23 eh_23
  refine v_put in_J2 (ci := 2) rfl 2 (Nat.le_of_ble_eq_true rfl) tyJ2 tyJ2_ok nmJ2 q179 rfl rfl rfl rfl rfl dJ2_add_3_61 e_21 e_22 ?_
  rw [← eh_23]
  exact v_vret dJ2_add_3_64 rfl ⟨rfl, hw⟩
theorem e_J2_add_3 {post : (AH) → Prop}   {b0 : Nat} {x1 : Int32} {x2 : Option Nat} {h : AH}  (hw : w_J2_add_3 post  b0 x1 x2 h) : VV l E X cJ2_add_3 RJ2 "add" 5 r_J2_add_3 none (vpv (fun (h' : AH) => post h')) h 0 0 0 [(0, va_rf (some b0)), (1, .int x1), (2, va_rf x2)] [] := by
  refine v_aload_n (q := 0) dJ2_add_3_0 rfl rfl ?_
  refine v_iload_n (q := 1) dJ2_add_3_1 rfl rfl ?_
  obtain ⟨fs_54, e_55, hw⟩ := hw
  refine v_callV0 q1003 q1005 qs31 q108 q1006 (ci := 2) rfl e_55 n_J2_rangeCheckForAdd ⟨Nat.le_of_ble_eq_true rfl, Nat.le_of_ble_eq_true rfl⟩ [.int x1] [] (met_J2_rangeCheckForAdd hw) rfl (Nat.zero_le _) rfl rfl dJ2_add_3_2 rfl (v_kv (fun h1 hv => ?_))
  clear hw
  obtain ⟨e9, hw⟩ := hv
  refine v_heap e9 ?_
  clear e9
  refine v_aload_n (q := 0) dJ2_add_3_5 rfl rfl ?_
  refine v_dup dJ2_add_3_6 (v_rf1 _) ?_
  obtain ⟨fs_25, z_28, e_26, e_27, hw⟩ := hw
  refine v_getS in_J2 (ci := 2) rfl 0 (Nat.le_of_ble_eq_true rfl) q181 q182 dJ2_add_3_7 e_26 e_27 ?_
  refine v_iconst dJ2_add_3_10 ic_1 ?_
  refine v_iadd dJ2_add_3_11 ?_
  obtain ⟨fs_29, e_30, e_31, hw⟩ := hw
  obtain ⟨h_32, eh_32⟩ : ∃ z9 : AH, z9 = va_up h b0 (some (.inr (2, fs_29.set 0 (.int (z_28 + (nI 1)))))) := ⟨_, rfl⟩
  replace hw := hw h_32 eh_32
  refine v_putS in_J2 (ci := 2) rfl 0 (Nat.le_of_ble_eq_true rfl) tyJ2 tyJ2_ok nmJ2 q181 q182 rfl rfl rfl rfl dJ2_add_3_12 e_30 e_31 ?_
  rw [← eh_32]
  refine v_aload_n (q := 0) dJ2_add_3_15 rfl rfl ?_
  obtain ⟨fs_33, z_36, e_34, e_35, hw⟩ := hw
  refine v_get in_J2 (ci := 2) rfl 2 (Nat.le_of_ble_eq_true rfl) q179 rfl dJ2_add_3_16 e_34 e_35 ?_
  refine v_dup dJ2_add_3_19 rfl ?_
  refine v_istore_n (lv1 := [(3, .int z_36), (0, va_rf (some b0)), (1, .int x1), (2, va_rf x2)]) dJ2_add_3_20 rfl (Nat.le_of_ble_eq_true rfl) (by cases x2 <;> rfl) ?_
  refine v_aload_n (q := 1) dJ2_add_3_21 rfl rfl ?_
  obtain ⟨fs_37, r_40, e_38, e_39, hw⟩ := hw
  refine v_get in_J2 (ci := 2) rfl 1 (Nat.le_of_ble_eq_true rfl) q178 rfl dJ2_add_3_22 e_38 e_39 ?_
  refine v_dup dJ2_add_3_25 (v_rf1 _) ?_
  refine v_astore (lv1 := [(4, va_rf r_40), (3, .int z_36), (0, va_rf (some b0)), (1, .int x1), (2, va_rf x2)]) dJ2_add_3_26 (Nat.le_of_ble_eq_true rfl) rfl ?_
  obtain ⟨a_41, ea_41, hw⟩ := hw
  subst ea_41
  obtain ⟨y_42, e_43, hw⟩ := hw
  refine v_alen (tt := 5) rfl dJ2_add_3_28 e_43 rfl ?_
  obtain ⟨hw_46, hw_47⟩ := hw
  refine v_icmp_ne (tgt := 38) dJ2_add_3_29 (by decide) (fun c_44 => ?_) (fun c_45 => ?_)
  · have hw := hw_46 c_44
    refine v_sub [2, 3, 4, 1, 0] rfl ?_
    exact b_J2_add_3_38 z_36 (some a_41) h_32 0 0 hw
  · have hw := hw_47 c_45
    refine v_aload_n (q := 2) dJ2_add_3_32 rfl rfl ?_
    obtain ⟨fs_52, e_53, hw⟩ := hw
    obtain ⟨e_50, e_51, hw⟩ := hw
    refine v_callV q453 q455 qs2 q108 q456 (ci := 2) rfl e_53 n_J2_grow ⟨Nat.le_of_ble_eq_true rfl, Nat.le_of_ble_eq_true rfl⟩ [] [] (met_J2_grow hw) rfl (Nat.zero_le _) ⟨e_50, e_51⟩ dJ2_add_3_33 rfl (v_kq (fun r_48 h_49 hv => ?_))
    clear hw
    have hw := hv
    clear hv
    refine v_astore (lv1 := [(4, va_rf r_48), (3, .int z_36), (0, va_rf (some b0)), (1, .int x1), (2, va_rf x2)]) dJ2_add_3_36 (Nat.le_of_ble_eq_true rfl) rfl ?_
    refine v_sub [2, 3, 4, 1, 0] rfl ?_
    exact b_J2_add_3_38 z_36 r_48 h_49 (0 + 1) (0 + 63) hw
theorem met_J2_add_3 {post : (AH) → Prop}   {b0 : Nat} {x1 : Int32} {x2 : Option Nat} {h : AH}  (hw : w_J2_add_3 post  b0 x1 x2 h) : Mt l E yJ2_add_3 (ws_ yJ2_add_3 cJ2_add_3 5 none) r_J2_add_3 [va_rf (some b0), .int x1, va_rf x2] h (vpv (fun (h' : AH) => post h')) := v_entry (by decide +kernel) (by cases x2 <;> exact (Nat.le_of_ble_eq_true rfl)) (by cases x2 <;> exact rfl) (fun _ => e_J2_add_3 hw)
/-! X2_init -/
abbrev r_X2_init : Room := { frames := 1, cells := 1, slots := 256, locals := 20 }
theorem n_X2_init : vdn yX2_init 0 := ⟨by decide +kernel, by decide +kernel, by decide +kernel⟩
def w_X2_init (post : (AH) → Prop) (b0 : Nat) (h : AH) : Prop :=
 (∃ N_8 : Nat, ¬ (nI 256) < 0 ∧ ((nI 256)).toNatClampNeg = N_8 ∧ (N_8 ≤ 65536 ∧ 0 + 1 ≤ 1) ∧ 0 + N_8 ≤ 256 ∧ ∀ a_1 : Nat, h a_1 = none → ∀ h_3 : AH, h_3 = va_up h a_1 (some (.inl (0, N_8, .inl (fun _ => 0)))) → (∃ fs_9 : List Value, h_3 b0 = some (.inr (3, fs_9)) ∧ 4 < fs_9.length ∧ ∀ h_12 : AH, h_12 = va_up h_3 b0 (some (.inr (3, fs_9.set 4 (va_rf (some a_1))))) → (post h_12)))
theorem e_X2_init {post : (AH) → Prop}   {b0 : Nat} {h : AH}  (hw : w_X2_init post  b0 h) : VV l E X cX2_init RX2 "<init>" 1 r_X2_init none (vpv (fun (h' : AH) => post h')) h 0 0 0 [(0, va_rf (some b0))] [] := by
  refine v_aload_n (q := 0) dX2_init_0 rfl rfl ?_
  refine v_objInit q196 q154 q155 (Nat.zero_le _) (Nat.le_of_ble_eq_true rfl) (Nat.le_of_ble_eq_true rfl) dX2_init_1 ?_
  refine v_aload_n (q := 0) dX2_init_4 rfl rfl ?_
  refine v_sipush dX2_init_5 sp_256 ?_
  obtain ⟨N_8, e_4, e_7, e_5, e_6, hw⟩ := hw
  refine v_newaI q190 e_4 e_7 (Nat.le_trans (Nat.mul_le_mul_right _ e_5.1) (by decide)) e_5.2 e_6 dX2_init_8 (fun a_1 e_2 => ?_)
  obtain ⟨h_3, eh_3⟩ : ∃ z9 : AH, z9 = va_up h a_1 (some (.inl (0, N_8, .inl (fun _ => 0)))) := ⟨_, rfl⟩
  replace hw := hw a_1 e_2 h_3 eh_3
  rw [← eh_3]
  obtain ⟨fs_9, e_10, e_11, hw⟩ := hw
  obtain ⟨h_12, eh_12⟩ : ∃ z9 : AH, z9 = va_up h_3 b0 (some (.inr (3, fs_9.set 4 (va_rf (some a_1))))) := ⟨_, rfl⟩
  replace hw := hw h_12 eh_12
  refine v_putF in_X2 (ci := 3) rfl 4 (Nat.le_of_ble_eq_true rfl) tyX2 tyX2_ok nmX2 q205 rfl rfl rfl rfl rfl (v_rfa _ _).1 (v_rfa _ _).2 dX2_init_10 e_10 e_11 ?_
  rw [← eh_12]
  exact v_vret dX2_init_13 rfl ⟨rfl, hw⟩
theorem met_X2_init {post : (AH) → Prop}   {b0 : Nat} {h : AH}  (hw : w_X2_init post  b0 h) : Mt l E yX2_init (ws_ yX2_init cX2_init 1 none) r_X2_init [va_rf (some b0)] h (vpv (fun (h' : AH) => post h')) := v_entry (by decide +kernel) (Nat.le_of_ble_eq_true rfl) rfl (fun _ => e_X2_init hw)
/-! X1_init -/
abbrev r_X1_init : Room := { frames := 4, cells := 23, slots := 700, locals := 81 }
theorem n_X1_init : vdn yX1_init 0 := ⟨by decide +kernel, by decide +kernel, by decide +kernel⟩
def w_X1_init (post : (AH) → Prop) (b0 : Nat) (h : AH) : Prop :=
 (∃ fs_1 : List Value, h b0 = some (.inr (1, fs_1)) ∧ 0 < fs_1.length ∧ ∀ h_4 : AH, h_4 = va_up h b0 (some (.inr (1, fs_1.set 0 (.int (nI 5000))))) → (∃ fs_5 : List Value, h_4 b0 = some (.inr (1, fs_5)) ∧ 1 < fs_5.length ∧ ∀ h_8 : AH, h_8 = va_up h_4 b0 (some (.inr (1, fs_5.set 1 (.int (nI 80))))) → (∃ fs_9 : List Value, h_8 b0 = some (.inr (1, fs_9)) ∧ 2 < fs_9.length ∧ ∀ h_12 : AH, h_12 = va_up h_8 b0 (some (.inr (1, fs_9.set 2 (.int (nI 50))))) → (0 + 1 ≤ 23 ∧ 0 + 3 ≤ 700 ∧ ∀ a_13 : Nat, h_12 a_13 = none → ∀ h_15 : AH, h_15 = va_up h_12 a_13 (some (.inr (2, dfJ2))) → ((0 + 1) + 1 ≤ 23 ∧ (0 + 3) + 2 ≤ 700 ∧ (w_J2_init (fun (h_20 : AH) => (∃ fs_21 : List Value, h_20 b0 = some (.inr (1, fs_21)) ∧ 3 < fs_21.length ∧ ∀ h_24 : AH, h_24 = va_up h_20 b0 (some (.inr (1, fs_21.set 3 (va_rf (some a_13))))) → (((0 + 1) + 1) + 1 ≤ 23 ∧ ((0 + 3) + 2) + 3 ≤ 700 ∧ ∀ a_25 : Nat, h_24 a_25 = none → ∀ h_27 : AH, h_27 = va_up h_24 a_25 (some (.inr (2, dfJ2))) → ((((0 + 1) + 1) + 1) + 1 ≤ 23 ∧ (((0 + 3) + 2) + 3) + 2 ≤ 700 ∧ (w_J2_init (fun (h_32 : AH) => (∃ fs_33 : List Value, h_32 b0 = some (.inr (1, fs_33)) ∧ 4 < fs_33.length ∧ ∀ h_36 : AH, h_36 = va_up h_32 b0 (some (.inr (1, fs_33.set 4 (va_rf (some a_25))))) → (((((0 + 1) + 1) + 1) + 1) + 1 ≤ 23 ∧ ((((0 + 3) + 2) + 3) + 2) + 3 ≤ 700 ∧ ∀ a_37 : Nat, h_36 a_37 = none → ∀ h_39 : AH, h_39 = va_up h_36 a_37 (some (.inr (2, dfJ2))) → ((((((0 + 1) + 1) + 1) + 1) + 1) + 1 ≤ 23 ∧ (((((0 + 3) + 2) + 3) + 2) + 3) + 2 ≤ 700 ∧ (w_J2_init (fun (h_44 : AH) => (∃ fs_45 : List Value, h_44 b0 = some (.inr (1, fs_45)) ∧ 5 < fs_45.length ∧ ∀ h_48 : AH, h_48 = va_up h_44 b0 (some (.inr (1, fs_45.set 5 (va_rf (some a_37))))) → (((((((0 + 1) + 1) + 1) + 1) + 1) + 1) + 1 ≤ 23 ∧ ((((((0 + 3) + 2) + 3) + 2) + 3) + 2) + 3 ≤ 700 ∧ ∀ a_49 : Nat, h_48 a_49 = none → ∀ h_51 : AH, h_51 = va_up h_48 a_49 (some (.inr (2, dfJ2))) → ((((((((0 + 1) + 1) + 1) + 1) + 1) + 1) + 1) + 1 ≤ 23 ∧ (((((((0 + 3) + 2) + 3) + 2) + 3) + 2) + 3) + 2 ≤ 700 ∧ (w_J2_init (fun (h_56 : AH) => (∃ fs_57 : List Value, h_56 b0 = some (.inr (1, fs_57)) ∧ 6 < fs_57.length ∧ ∀ h_60 : AH, h_60 = va_up h_56 b0 (some (.inr (1, fs_57.set 6 (va_rf (some a_49))))) → (((((((((0 + 1) + 1) + 1) + 1) + 1) + 1) + 1) + 1) + 1 ≤ 23 ∧ ((((((((0 + 3) + 2) + 3) + 2) + 3) + 2) + 3) + 2) + 3 ≤ 700 ∧ ∀ a_61 : Nat, h_60 a_61 = none → ∀ h_63 : AH, h_63 = va_up h_60 a_61 (some (.inr (2, dfJ2))) → ((((((((((0 + 1) + 1) + 1) + 1) + 1) + 1) + 1) + 1) + 1) + 1 ≤ 23 ∧ (((((((((0 + 3) + 2) + 3) + 2) + 3) + 2) + 3) + 2) + 3) + 2 ≤ 700 ∧ (w_J2_init (fun (h_68 : AH) => (∃ fs_69 : List Value, h_68 b0 = some (.inr (1, fs_69)) ∧ 7 < fs_69.length ∧ ∀ h_72 : AH, h_72 = va_up h_68 b0 (some (.inr (1, fs_69.set 7 (va_rf (some a_61))))) → (((((((((((0 + 1) + 1) + 1) + 1) + 1) + 1) + 1) + 1) + 1) + 1) + 1 ≤ 23 ∧ ((((((((((0 + 3) + 2) + 3) + 2) + 3) + 2) + 3) + 2) + 3) + 2) + 3 ≤ 700 ∧ ∀ a_73 : Nat, h_72 a_73 = none → ∀ h_75 : AH, h_75 = va_up h_72 a_73 (some (.inr (2, dfJ2))) → ((((((((((((0 + 1) + 1) + 1) + 1) + 1) + 1) + 1) + 1) + 1) + 1) + 1) + 1 ≤ 23 ∧ (((((((((((0 + 3) + 2) + 3) + 2) + 3) + 2) + 3) + 2) + 3) + 2) + 3) + 2 ≤ 700 ∧ (w_J2_init (fun (h_80 : AH) => (∃ fs_81 : List Value, h_80 b0 = some (.inr (1, fs_81)) ∧ 8 < fs_81.length ∧ ∀ h_84 : AH, h_84 = va_up h_80 b0 (some (.inr (1, fs_81.set 8 (va_rf (some a_73))))) → (((((((((((((0 + 1) + 1) + 1) + 1) + 1) + 1) + 1) + 1) + 1) + 1) + 1) + 1) + 1 ≤ 23 ∧ ((((((((((((0 + 3) + 2) + 3) + 2) + 3) + 2) + 3) + 2) + 3) + 2) + 3) + 2) + 3 ≤ 700 ∧ ∀ a_85 : Nat, h_84 a_85 = none → ∀ h_87 : AH, h_87 = va_up h_84 a_85 (some (.inr (2, dfJ2))) → ((((((((((((((0 + 1) + 1) + 1) + 1) + 1) + 1) + 1) + 1) + 1) + 1) + 1) + 1) + 1) + 1 ≤ 23 ∧ (((((((((((((0 + 3) + 2) + 3) + 2) + 3) + 2) + 3) + 2) + 3) + 2) + 3) + 2) + 3) + 2 ≤ 700 ∧ (w_J2_init (fun (h_92 : AH) => (∃ fs_93 : List Value, h_92 b0 = some (.inr (1, fs_93)) ∧ 9 < fs_93.length ∧ ∀ h_96 : AH, h_96 = va_up h_92 b0 (some (.inr (1, fs_93.set 9 (va_rf (some a_85))))) → (((((((((((((((0 + 1) + 1) + 1) + 1) + 1) + 1) + 1) + 1) + 1) + 1) + 1) + 1) + 1) + 1) + 1 ≤ 23 ∧ ((((((((((((((0 + 3) + 2) + 3) + 2) + 3) + 2) + 3) + 2) + 3) + 2) + 3) + 2) + 3) + 2) + 3 ≤ 700 ∧ ∀ a_97 : Nat, h_96 a_97 = none → ∀ h_99 : AH, h_99 = va_up h_96 a_97 (some (.inr (2, dfJ2))) → ((((((((((((((((0 + 1) + 1) + 1) + 1) + 1) + 1) + 1) + 1) + 1) + 1) + 1) + 1) + 1) + 1) + 1) + 1 ≤ 23 ∧ (((((((((((((((0 + 3) + 2) + 3) + 2) + 3) + 2) + 3) + 2) + 3) + 2) + 3) + 2) + 3) + 2) + 3) + 2 ≤ 700 ∧ (w_J2_init (fun (h_104 : AH) => (∃ fs_105 : List Value, h_104 b0 = some (.inr (1, fs_105)) ∧ 10 < fs_105.length ∧ ∀ h_108 : AH, h_108 = va_up h_104 b0 (some (.inr (1, fs_105.set 10 (va_rf (some a_97))))) → (∃ N_116 : Nat, ¬ (nI 256) < 0 ∧ ((nI 256)).toNatClampNeg = N_116 ∧ (N_116 ≤ 65536 ∧ ((((((((((((((((0 + 1) + 1) + 1) + 1) + 1) + 1) + 1) + 1) + 1) + 1) + 1) + 1) + 1) + 1) + 1) + 1) + 1 ≤ 23) ∧ ((((((((((((((((0 + 3) + 2) + 3) + 2) + 3) + 2) + 3) + 2) + 3) + 2) + 3) + 2) + 3) + 2) + 3) + 2) + N_116 ≤ 700 ∧ ∀ a_109 : Nat, h_108 a_109 = none → ∀ h_111 : AH, h_111 = va_up h_108 a_109 (some (.inl (0, N_116, .inl (fun _ => 0)))) → (∃ fs_117 : List Value, h_111 b0 = some (.inr (1, fs_117)) ∧ 11 < fs_117.length ∧ ∀ h_120 : AH, h_120 = va_up h_111 b0 (some (.inr (1, fs_117.set 11 (va_rf (some a_109))))) → (∃ N_128 : Nat, ¬ (nI 8) < 0 ∧ ((nI 8)).toNatClampNeg = N_128 ∧ (N_128 ≤ 65536 ∧ (((((((((((((((((0 + 1) + 1) + 1) + 1) + 1) + 1) + 1) + 1) + 1) + 1) + 1) + 1) + 1) + 1) + 1) + 1) + 1) + 1 ≤ 23) ∧ (((((((((((((((((0 + 3) + 2) + 3) + 2) + 3) + 2) + 3) + 2) + 3) + 2) + 3) + 2) + 3) + 2) + 3) + 2) + N_116) + N_128 ≤ 700 ∧ ∀ a_121 : Nat, h_120 a_121 = none → ∀ h_123 : AH, h_123 = va_up h_120 a_121 (some (.inl (0, N_128, .inl (fun _ => 0)))) → (∃ fs_129 : List Value, h_123 b0 = some (.inr (1, fs_129)) ∧ 12 < fs_129.length ∧ ∀ h_132 : AH, h_132 = va_up h_123 b0 (some (.inr (1, fs_129.set 12 (va_rf (some a_121))))) → (∃ N_140 : Nat, ¬ (nI 128) < 0 ∧ ((nI 128)).toNatClampNeg = N_140 ∧ (N_140 ≤ 65536 ∧ ((((((((((((((((((0 + 1) + 1) + 1) + 1) + 1) + 1) + 1) + 1) + 1) + 1) + 1) + 1) + 1) + 1) + 1) + 1) + 1) + 1) + 1 ≤ 23) ∧ ((((((((((((((((((0 + 3) + 2) + 3) + 2) + 3) + 2) + 3) + 2) + 3) + 2) + 3) + 2) + 3) + 2) + 3) + 2) + N_116) + N_128) + N_140 ≤ 700 ∧ ∀ a_133 : Nat, h_132 a_133 = none → ∀ h_135 : AH, h_135 = va_up h_132 a_133 (some (.inl (0, N_140, .inl (fun _ => 0)))) → (∃ fs_141 : List Value, h_135 b0 = some (.inr (1, fs_141)) ∧ 13 < fs_141.length ∧ ∀ h_144 : AH, h_144 = va_up h_135 b0 (some (.inr (1, fs_141.set 13 (va_rf (some a_133))))) → ((((((((((((((((((((0 + 1) + 1) + 1) + 1) + 1) + 1) + 1) + 1) + 1) + 1) + 1) + 1) + 1) + 1) + 1) + 1) + 1) + 1) + 1) + 1 ≤ 23 ∧ (((((((((((((((((((0 + 3) + 2) + 3) + 2) + 3) + 2) + 3) + 2) + 3) + 2) + 3) + 2) + 3) + 2) + 3) + 2) + N_116) + N_128) + N_140) + 3 ≤ 700 ∧ ∀ a_145 : Nat, h_144 a_145 = none → ∀ h_147 : AH, h_147 = va_up h_144 a_145 (some (.inr (2, dfJ2))) → (((((((((((((((((((((0 + 1) + 1) + 1) + 1) + 1) + 1) + 1) + 1) + 1) + 1) + 1) + 1) + 1) + 1) + 1) + 1) + 1) + 1) + 1) + 1) + 1 ≤ 23 ∧ ((((((((((((((((((((0 + 3) + 2) + 3) + 2) + 3) + 2) + 3) + 2) + 3) + 2) + 3) + 2) + 3) + 2) + 3) + 2) + N_116) + N_128) + N_140) + 3) + 2 ≤ 700 ∧ (w_J2_init (fun (h_152 : AH) => (∃ fs_153 : List Value, h_152 b0 = some (.inr (1, fs_153)) ∧ 15 < fs_153.length ∧ ∀ h_156 : AH, h_156 = va_up h_152 b0 (some (.inr (1, fs_153.set 15 (va_rf (some a_145))))) → ((((((((((((((((((((((0 + 1) + 1) + 1) + 1) + 1) + 1) + 1) + 1) + 1) + 1) + 1) + 1) + 1) + 1) + 1) + 1) + 1) + 1) + 1) + 1) + 1) + 1 ≤ 23 ∧ (((((((((((((((((((((0 + 3) + 2) + 3) + 2) + 3) + 2) + 3) + 2) + 3) + 2) + 3) + 2) + 3) + 2) + 3) + 2) + N_116) + N_128) + N_140) + 3) + 2) + 5 ≤ 700 ∧ ∀ a_157 : Nat, h_156 a_157 = none → ∀ h_159 : AH, h_159 = va_up h_156 a_157 (some (.inr (3, dfX2))) → (((((((((((((((((((((((0 + 1) + 1) + 1) + 1) + 1) + 1) + 1) + 1) + 1) + 1) + 1) + 1) + 1) + 1) + 1) + 1) + 1) + 1) + 1) + 1) + 1) + 1) + 1 ≤ 23 ∧ ((((((((((((((((((((((0 + 3) + 2) + 3) + 2) + 3) + 2) + 3) + 2) + 3) + 2) + 3) + 2) + 3) + 2) + 3) + 2) + N_116) + N_128) + N_140) + 3) + 2) + 5) + 256 ≤ 700 ∧ (w_X2_init (fun (h_164 : AH) => (∃ fs_165 : List Value, h_164 b0 = some (.inr (1, fs_165)) ∧ 16 < fs_165.length ∧ ∀ h_168 : AH, h_168 = va_up h_164 b0 (some (.inr (1, fs_165.set 16 (va_rf (some a_157))))) → (post h_168))) a_157 h_159))))) a_145 (nI 2) h_147))))))))))) a_97 (nI 2) h_99))))) a_85 (nI 2) h_87))))) a_73 (nI 2) h_75))))) a_61 (nI 2) h_63))))) a_49 (nI 2) h_51))))) a_37 (nI 2) h_39))))) a_25 (nI 2) h_27))))) a_13 (nI 2) h_15))))))
theorem e_X1_init {post : (AH) → Prop}   {b0 : Nat} {h : AH}  (hw : w_X1_init post  b0 h) : VV l E X cX1_init RX1 "<init>" 1 r_X1_init none (vpv (fun (h' : AH) => post h')) h 0 0 0 [(0, va_rf (some b0))] [] := by
  refine v_aload_n (q := 0) dX1_init_0 rfl rfl ?_
  refine v_objInit q161 q154 q155 (Nat.zero_le _) (Nat.le_of_ble_eq_true rfl) (Nat.le_of_ble_eq_true rfl) dX1_init_1 ?_
  refine v_aload_n (q := 0) dX1_init_4 rfl rfl ?_
  refine v_sipush dX1_init_5 sp_5000 ?_
  obtain ⟨fs_1, e_2, e_3, hw⟩ := hw
  obtain ⟨h_4, eh_4⟩ : ∃ z9 : AH, z9 = va_up h b0 (some (.inr (1, fs_1.set 0 (.int (nI 5000))))) := ⟨_, rfl⟩
  replace hw := hw h_4 eh_4
  refine v_put in_X1 (ci := 1) rfl 0 (Nat.le_of_ble_eq_true rfl) tyX1 tyX1_ok nmX1 q219 rfl rfl rfl rfl rfl dX1_init_8 e_2 e_3 ?_
  rw [← eh_4]
  refine v_aload_n (q := 0) dX1_init_11 rfl rfl ?_
  refine v_bipush dX1_init_12 bp_80 ?_
  obtain ⟨fs_5, e_6, e_7, hw⟩ := hw
  obtain ⟨h_8, eh_8⟩ : ∃ z9 : AH, z9 = va_up h_4 b0 (some (.inr (1, fs_5.set 1 (.int (nI 80))))) := ⟨_, rfl⟩
  replace hw := hw h_8 eh_8
  refine v_put in_X1 (ci := 1) rfl 1 (Nat.le_of_ble_eq_true rfl) tyX1 tyX1_ok nmX1 q221 rfl rfl rfl rfl rfl dX1_init_14 e_6 e_7 ?_
  rw [← eh_8]
  refine v_aload_n (q := 0) dX1_init_17 rfl rfl ?_
  refine v_bipush dX1_init_18 bp_50 ?_
  obtain ⟨fs_9, e_10, e_11, hw⟩ := hw
  obtain ⟨h_12, eh_12⟩ : ∃ z9 : AH, z9 = va_up h_8 b0 (some (.inr (1, fs_9.set 2 (.int (nI 50))))) := ⟨_, rfl⟩
  replace hw := hw h_12 eh_12
  refine v_put in_X1 (ci := 1) rfl 2 (Nat.le_of_ble_eq_true rfl) tyX1 tyX1_ok nmX1 q223 rfl rfl rfl rfl rfl dX1_init_20 e_10 e_11 ?_
  rw [← eh_12]
  refine v_aload_n (q := 0) dX1_init_23 rfl rfl ?_
  obtain ⟨e_16, e_17, hw⟩ := hw
  refine v_new in_J2 (ci := 2) rfl tyJ2 tyJ2_ok q162 q163 q108 dfJ2_ok e_16 e_17 dX1_init_24 (fun a_13 e_14 => ?_)
  obtain ⟨h_15, eh_15⟩ : ∃ z9 : AH, z9 = va_up h_12 a_13 (some (.inr (2, dfJ2))) := ⟨_, rfl⟩
  replace hw := hw a_13 e_14 h_15 eh_15
  rw [← eh_15]
  refine v_dup dX1_init_27 (v_rf1 _) ?_
  refine v_iconst dX1_init_28 ic_2 ?_
  obtain ⟨e_187, e_188, hw⟩ := hw
  refine v_callI q164 q165 q108 q166 rfl n_J2_init ⟨Nat.le_of_ble_eq_true rfl, Nat.le_of_ble_eq_true rfl⟩ [.int (nI 2)] [va_rf (some a_13), va_rf (some b0)] (met_J2_init hw) rfl (by simp only [List.map_cons, List.map_nil, List.sum_cons, List.sum_nil, v_rf1, v_cI, v_cJ]; decide) ⟨e_187, e_188⟩ dX1_init_29 rfl (v_kv (fun h_20 hv => ?_))
  clear hw
  have hw := hv
  clear hv
  obtain ⟨fs_21, e_22, e_23, hw⟩ := hw
  obtain ⟨h_24, eh_24⟩ : ∃ z9 : AH, z9 = va_up h_20 b0 (some (.inr (1, fs_21.set 3 (va_rf (some a_13))))) := ⟨_, rfl⟩
  replace hw := hw h_24 eh_24
  refine v_putF in_X1 (ci := 1) rfl 3 (Nat.le_of_ble_eq_true rfl) tyX1 tyX1_ok nmX1 q225 rfl rfl rfl rfl rfl (v_rfn _ _).1 (v_rfn _ _).2 dX1_init_32 e_22 e_23 ?_
  rw [← eh_24]
  refine v_aload_n (q := 0) dX1_init_35 rfl rfl ?_
  obtain ⟨e_28, e_29, hw⟩ := hw
  refine v_new in_J2 (ci := 2) rfl tyJ2 tyJ2_ok q162 q163 q108 dfJ2_ok e_28 e_29 dX1_init_36 (fun a_25 e_26 => ?_)
  obtain ⟨h_27, eh_27⟩ : ∃ z9 : AH, z9 = va_up h_24 a_25 (some (.inr (2, dfJ2))) := ⟨_, rfl⟩
  replace hw := hw a_25 e_26 h_27 eh_27
  rw [← eh_27]
  refine v_dup dX1_init_39 (v_rf1 _) ?_
  refine v_iconst dX1_init_40 ic_2 ?_
  obtain ⟨e_185, e_186, hw⟩ := hw
  refine v_callI q164 q165 q108 q166 rfl n_J2_init ⟨Nat.le_of_ble_eq_true rfl, Nat.le_of_ble_eq_true rfl⟩ [.int (nI 2)] [va_rf (some a_25), va_rf (some b0)] (met_J2_init hw) rfl (by simp only [List.map_cons, List.map_nil, List.sum_cons, List.sum_nil, v_rf1, v_cI, v_cJ]; decide) ⟨e_185, e_186⟩ dX1_init_41 rfl (v_kv (fun h_32 hv => ?_))
  clear hw
  have hw := hv
  clear hv
  obtain ⟨fs_33, e_34, e_35, hw⟩ := hw
  obtain ⟨h_36, eh_36⟩ : ∃ z9 : AH, z9 = va_up h_32 b0 (some (.inr (1, fs_33.set 4 (va_rf (some a_25))))) := ⟨_, rfl⟩
  replace hw := hw h_36 eh_36
  refine v_putF in_X1 (ci := 1) rfl 4 (Nat.le_of_ble_eq_true rfl) tyX1 tyX1_ok nmX1 q227 rfl rfl rfl rfl rfl (v_rfn _ _).1 (v_rfn _ _).2 dX1_init_44 e_34 e_35 ?_
  rw [← eh_36]
  refine v_aload_n (q := 0) dX1_init_47 rfl rfl ?_
  obtain ⟨e_40, e_41, hw⟩ := hw
  refine v_new in_J2 (ci := 2) rfl tyJ2 tyJ2_ok q162 q163 q108 dfJ2_ok e_40 e_41 dX1_init_48 (fun a_37 e_38 => ?_)
  obtain ⟨h_39, eh_39⟩ : ∃ z9 : AH, z9 = va_up h_36 a_37 (some (.inr (2, dfJ2))) := ⟨_, rfl⟩
  replace hw := hw a_37 e_38 h_39 eh_39
  rw [← eh_39]
  refine v_dup dX1_init_51 (v_rf1 _) ?_
  refine v_iconst dX1_init_52 ic_2 ?_
  obtain ⟨e_183, e_184, hw⟩ := hw
  refine v_callI q164 q165 q108 q166 rfl n_J2_init ⟨Nat.le_of_ble_eq_true rfl, Nat.le_of_ble_eq_true rfl⟩ [.int (nI 2)] [va_rf (some a_37), va_rf (some b0)] (met_J2_init hw) rfl (by simp only [List.map_cons, List.map_nil, List.sum_cons, List.sum_nil, v_rf1, v_cI, v_cJ]; decide) ⟨e_183, e_184⟩ dX1_init_53 rfl (v_kv (fun h_44 hv => ?_))
  clear hw
  have hw := hv
  clear hv
  obtain ⟨fs_45, e_46, e_47, hw⟩ := hw
  obtain ⟨h_48, eh_48⟩ : ∃ z9 : AH, z9 = va_up h_44 b0 (some (.inr (1, fs_45.set 5 (va_rf (some a_37))))) := ⟨_, rfl⟩
  replace hw := hw h_48 eh_48
  refine v_putF in_X1 (ci := 1) rfl 5 (Nat.le_of_ble_eq_true rfl) tyX1 tyX1_ok nmX1 q229 rfl rfl rfl rfl rfl (v_rfn _ _).1 (v_rfn _ _).2 dX1_init_56 e_46 e_47 ?_
  rw [← eh_48]
  refine v_aload_n (q := 0) dX1_init_59 rfl rfl ?_
  obtain ⟨e_52, e_53, hw⟩ := hw
  refine v_new in_J2 (ci := 2) rfl tyJ2 tyJ2_ok q162 q163 q108 dfJ2_ok e_52 e_53 dX1_init_60 (fun a_49 e_50 => ?_)
  obtain ⟨h_51, eh_51⟩ : ∃ z9 : AH, z9 = va_up h_48 a_49 (some (.inr (2, dfJ2))) := ⟨_, rfl⟩
  replace hw := hw a_49 e_50 h_51 eh_51
  rw [← eh_51]
  refine v_dup dX1_init_63 (v_rf1 _) ?_
  refine v_iconst dX1_init_64 ic_2 ?_
  obtain ⟨e_181, e_182, hw⟩ := hw
  refine v_callI q164 q165 q108 q166 rfl n_J2_init ⟨Nat.le_of_ble_eq_true rfl, Nat.le_of_ble_eq_true rfl⟩ [.int (nI 2)] [va_rf (some a_49), va_rf (some b0)] (met_J2_init hw) rfl (by simp only [List.map_cons, List.map_nil, List.sum_cons, List.sum_nil, v_rf1, v_cI, v_cJ]; decide) ⟨e_181, e_182⟩ dX1_init_65 rfl (v_kv (fun h_56 hv => ?_))
  clear hw
  have hw := hv
  clear hv
  obtain ⟨fs_57, e_58, e_59, hw⟩ := hw
  obtain ⟨h_60, eh_60⟩ : ∃ z9 : AH, z9 = va_up h_56 b0 (some (.inr (1, fs_57.set 6 (va_rf (some a_49))))) := ⟨_, rfl⟩
  replace hw := hw h_60 eh_60
  refine v_putF in_X1 (ci := 1) rfl 6 (Nat.le_of_ble_eq_true rfl) tyX1 tyX1_ok nmX1 q231 rfl rfl rfl rfl rfl (v_rfn _ _).1 (v_rfn _ _).2 dX1_init_68 e_58 e_59 ?_
  rw [← eh_60]
  refine v_aload_n (q := 0) dX1_init_71 rfl rfl ?_
  obtain ⟨e_64, e_65, hw⟩ := hw
  refine v_new in_J2 (ci := 2) rfl tyJ2 tyJ2_ok q162 q163 q108 dfJ2_ok e_64 e_65 dX1_init_72 (fun a_61 e_62 => ?_)
  obtain ⟨h_63, eh_63⟩ : ∃ z9 : AH, z9 = va_up h_60 a_61 (some (.inr (2, dfJ2))) := ⟨_, rfl⟩
  replace hw := hw a_61 e_62 h_63 eh_63
  rw [← eh_63]
  refine v_dup dX1_init_75 (v_rf1 _) ?_
  refine v_iconst dX1_init_76 ic_2 ?_
  obtain ⟨e_179, e_180, hw⟩ := hw
  refine v_callI q164 q165 q108 q166 rfl n_J2_init ⟨Nat.le_of_ble_eq_true rfl, Nat.le_of_ble_eq_true rfl⟩ [.int (nI 2)] [va_rf (some a_61), va_rf (some b0)] (met_J2_init hw) rfl (by simp only [List.map_cons, List.map_nil, List.sum_cons, List.sum_nil, v_rf1, v_cI, v_cJ]; decide) ⟨e_179, e_180⟩ dX1_init_77 rfl (v_kv (fun h_68 hv => ?_))
  clear hw
  have hw := hv
  clear hv
  obtain ⟨fs_69, e_70, e_71, hw⟩ := hw
  obtain ⟨h_72, eh_72⟩ : ∃ z9 : AH, z9 = va_up h_68 b0 (some (.inr (1, fs_69.set 7 (va_rf (some a_61))))) := ⟨_, rfl⟩
  replace hw := hw h_72 eh_72
  refine v_putF in_X1 (ci := 1) rfl 7 (Nat.le_of_ble_eq_true rfl) tyX1 tyX1_ok nmX1 q233 rfl rfl rfl rfl rfl (v_rfn _ _).1 (v_rfn _ _).2 dX1_init_80 e_70 e_71 ?_
  rw [← eh_72]
  refine v_aload_n (q := 0) dX1_init_83 rfl rfl ?_
  obtain ⟨e_76, e_77, hw⟩ := hw
  refine v_new in_J2 (ci := 2) rfl tyJ2 tyJ2_ok q162 q163 q108 dfJ2_ok e_76 e_77 dX1_init_84 (fun a_73 e_74 => ?_)
  obtain ⟨h_75, eh_75⟩ : ∃ z9 : AH, z9 = va_up h_72 a_73 (some (.inr (2, dfJ2))) := ⟨_, rfl⟩
  replace hw := hw a_73 e_74 h_75 eh_75
  rw [← eh_75]
  refine v_dup dX1_init_87 (v_rf1 _) ?_
  refine v_iconst dX1_init_88 ic_2 ?_
  obtain ⟨e_177, e_178, hw⟩ := hw
  refine v_callI q164 q165 q108 q166 rfl n_J2_init ⟨Nat.le_of_ble_eq_true rfl, Nat.le_of_ble_eq_true rfl⟩ [.int (nI 2)] [va_rf (some a_73), va_rf (some b0)] (met_J2_init hw) rfl (by simp only [List.map_cons, List.map_nil, List.sum_cons, List.sum_nil, v_rf1, v_cI, v_cJ]; decide) ⟨e_177, e_178⟩ dX1_init_89 rfl (v_kv (fun h_80 hv => ?_))
  clear hw
  have hw := hv
  clear hv
  obtain ⟨fs_81, e_82, e_83, hw⟩ := hw
  obtain ⟨h_84, eh_84⟩ : ∃ z9 : AH, z9 = va_up h_80 b0 (some (.inr (1, fs_81.set 8 (va_rf (some a_73))))) := ⟨_, rfl⟩
  replace hw := hw h_84 eh_84
  refine v_putF in_X1 (ci := 1) rfl 8 (Nat.le_of_ble_eq_true rfl) tyX1 tyX1_ok nmX1 q235 rfl rfl rfl rfl rfl (v_rfn _ _).1 (v_rfn _ _).2 dX1_init_92 e_82 e_83 ?_
  rw [← eh_84]
  refine v_aload_n (q := 0) dX1_init_95 rfl rfl ?_
  obtain ⟨e_88, e_89, hw⟩ := hw
  refine v_new in_J2 (ci := 2) rfl tyJ2 tyJ2_ok q162 q163 q108 dfJ2_ok e_88 e_89 dX1_init_96 (fun a_85 e_86 => ?_)
  obtain ⟨h_87, eh_87⟩ : ∃ z9 : AH, z9 = va_up h_84 a_85 (some (.inr (2, dfJ2))) := ⟨_, rfl⟩
  replace hw := hw a_85 e_86 h_87 eh_87
  rw [← eh_87]
  refine v_dup dX1_init_99 (v_rf1 _) ?_
  refine v_iconst dX1_init_100 ic_2 ?_
  obtain ⟨e_175, e_176, hw⟩ := hw
  refine v_callI q164 q165 q108 q166 rfl n_J2_init ⟨Nat.le_of_ble_eq_true rfl, Nat.le_of_ble_eq_true rfl⟩ [.int (nI 2)] [va_rf (some a_85), va_rf (some b0)] (met_J2_init hw) rfl (by simp only [List.map_cons, List.map_nil, List.sum_cons, List.sum_nil, v_rf1, v_cI, v_cJ]; decide) ⟨e_175, e_176⟩ dX1_init_101 rfl (v_kv (fun h_92 hv => ?_))
  clear hw
  have hw := hv
  clear hv
  obtain ⟨fs_93, e_94, e_95, hw⟩ := hw
  obtain ⟨h_96, eh_96⟩ : ∃ z9 : AH, z9 = va_up h_92 b0 (some (.inr (1, fs_93.set 9 (va_rf (some a_85))))) := ⟨_, rfl⟩
  replace hw := hw h_96 eh_96
  refine v_putF in_X1 (ci := 1) rfl 9 (Nat.le_of_ble_eq_true rfl) tyX1 tyX1_ok nmX1 q237 rfl rfl rfl rfl rfl (v_rfn _ _).1 (v_rfn _ _).2 dX1_init_104 e_94 e_95 ?_
  rw [← eh_96]
  refine v_aload_n (q := 0) dX1_init_107 rfl rfl ?_
  obtain ⟨e_100, e_101, hw⟩ := hw
  refine v_new in_J2 (ci := 2) rfl tyJ2 tyJ2_ok q162 q163 q108 dfJ2_ok e_100 e_101 dX1_init_108 (fun a_97 e_98 => ?_)
  obtain ⟨h_99, eh_99⟩ : ∃ z9 : AH, z9 = va_up h_96 a_97 (some (.inr (2, dfJ2))) := ⟨_, rfl⟩
  replace hw := hw a_97 e_98 h_99 eh_99
  rw [← eh_99]
  refine v_dup dX1_init_111 (v_rf1 _) ?_
  refine v_iconst dX1_init_112 ic_2 ?_
  obtain ⟨e_173, e_174, hw⟩ := hw
  refine v_callI q164 q165 q108 q166 rfl n_J2_init ⟨Nat.le_of_ble_eq_true rfl, Nat.le_of_ble_eq_true rfl⟩ [.int (nI 2)] [va_rf (some a_97), va_rf (some b0)] (met_J2_init hw) rfl (by simp only [List.map_cons, List.map_nil, List.sum_cons, List.sum_nil, v_rf1, v_cI, v_cJ]; decide) ⟨e_173, e_174⟩ dX1_init_113 rfl (v_kv (fun h_104 hv => ?_))
  clear hw
  have hw := hv
  clear hv
  obtain ⟨fs_105, e_106, e_107, hw⟩ := hw
  obtain ⟨h_108, eh_108⟩ : ∃ z9 : AH, z9 = va_up h_104 b0 (some (.inr (1, fs_105.set 10 (va_rf (some a_97))))) := ⟨_, rfl⟩
  replace hw := hw h_108 eh_108
  refine v_putF in_X1 (ci := 1) rfl 10 (Nat.le_of_ble_eq_true rfl) tyX1 tyX1_ok nmX1 q239 rfl rfl rfl rfl rfl (v_rfn _ _).1 (v_rfn _ _).2 dX1_init_116 e_106 e_107 ?_
  rw [← eh_108]
  refine v_aload_n (q := 0) dX1_init_119 rfl rfl ?_
  refine v_sipush dX1_init_120 sp_256 ?_
  obtain ⟨N_116, e_112, e_115, e_113, e_114, hw⟩ := hw
  refine v_newaI q190 e_112 e_115 (Nat.le_trans (Nat.mul_le_mul_right _ e_113.1) (by decide)) e_113.2 e_114 dX1_init_123 (fun a_109 e_110 => ?_)
  obtain ⟨h_111, eh_111⟩ : ∃ z9 : AH, z9 = va_up h_108 a_109 (some (.inl (0, N_116, .inl (fun _ => 0)))) := ⟨_, rfl⟩
  replace hw := hw a_109 e_110 h_111 eh_111
  rw [← eh_111]
  obtain ⟨fs_117, e_118, e_119, hw⟩ := hw
  obtain ⟨h_120, eh_120⟩ : ∃ z9 : AH, z9 = va_up h_111 b0 (some (.inr (1, fs_117.set 11 (va_rf (some a_109))))) := ⟨_, rfl⟩
  replace hw := hw h_120 eh_120
  refine v_putF in_X1 (ci := 1) rfl 11 (Nat.le_of_ble_eq_true rfl) tyX1 tyX1_ok nmX1 q241 rfl rfl rfl rfl rfl (v_rfa _ _).1 (v_rfa _ _).2 dX1_init_125 e_118 e_119 ?_
  rw [← eh_120]
  refine v_aload_n (q := 0) dX1_init_128 rfl rfl ?_
  refine v_bipush dX1_init_129 bp_8 ?_
  obtain ⟨N_128, e_124, e_127, e_125, e_126, hw⟩ := hw
  refine v_newaI q190 e_124 e_127 (Nat.le_trans (Nat.mul_le_mul_right _ e_125.1) (by decide)) e_125.2 e_126 dX1_init_131 (fun a_121 e_122 => ?_)
  obtain ⟨h_123, eh_123⟩ : ∃ z9 : AH, z9 = va_up h_120 a_121 (some (.inl (0, N_128, .inl (fun _ => 0)))) := ⟨_, rfl⟩
  replace hw := hw a_121 e_122 h_123 eh_123
  rw [← eh_123]
  obtain ⟨fs_129, e_130, e_131, hw⟩ := hw
  obtain ⟨h_132, eh_132⟩ : ∃ z9 : AH, z9 = va_up h_123 b0 (some (.inr (1, fs_129.set 12 (va_rf (some a_121))))) := ⟨_, rfl⟩
  replace hw := hw h_132 eh_132
  refine v_putF in_X1 (ci := 1) rfl 12 (Nat.le_of_ble_eq_true rfl) tyX1 tyX1_ok nmX1 q243 rfl rfl rfl rfl rfl (v_rfa _ _).1 (v_rfa _ _).2 dX1_init_133 e_130 e_131 ?_
  rw [← eh_132]
  refine v_aload_n (q := 0) dX1_init_136 rfl rfl ?_
  refine v_sipush dX1_init_137 sp_128 ?_
  obtain ⟨N_140, e_136, e_139, e_137, e_138, hw⟩ := hw
  refine v_newaI q190 e_136 e_139 (Nat.le_trans (Nat.mul_le_mul_right _ e_137.1) (by decide)) e_137.2 e_138 dX1_init_140 (fun a_133 e_134 => ?_)
  obtain ⟨h_135, eh_135⟩ : ∃ z9 : AH, z9 = va_up h_132 a_133 (some (.inl (0, N_140, .inl (fun _ => 0)))) := ⟨_, rfl⟩
  replace hw := hw a_133 e_134 h_135 eh_135
  rw [← eh_135]
  obtain ⟨fs_141, e_142, e_143, hw⟩ := hw
  obtain ⟨h_144, eh_144⟩ : ∃ z9 : AH, z9 = va_up h_135 b0 (some (.inr (1, fs_141.set 13 (va_rf (some a_133))))) := ⟨_, rfl⟩
  replace hw := hw h_144 eh_144
  refine v_putF in_X1 (ci := 1) rfl 13 (Nat.le_of_ble_eq_true rfl) tyX1 tyX1_ok nmX1 q245 rfl rfl rfl rfl rfl (v_rfa _ _).1 (v_rfa _ _).2 dX1_init_142 e_142 e_143 ?_
  rw [← eh_144]
  refine v_aload_n (q := 0) dX1_init_145 rfl rfl ?_
  obtain ⟨e_148, e_149, hw⟩ := hw
  refine v_new in_J2 (ci := 2) rfl tyJ2 tyJ2_ok q162 q163 q108 dfJ2_ok e_148 e_149 dX1_init_146 (fun a_145 e_146 => ?_)
  obtain ⟨h_147, eh_147⟩ : ∃ z9 : AH, z9 = va_up h_144 a_145 (some (.inr (2, dfJ2))) := ⟨_, rfl⟩
  replace hw := hw a_145 e_146 h_147 eh_147
  rw [← eh_147]
  refine v_dup dX1_init_149 (v_rf1 _) ?_
  refine v_iconst dX1_init_150 ic_2 ?_
  obtain ⟨e_171, e_172, hw⟩ := hw
  refine v_callI q164 q165 q108 q166 rfl n_J2_init ⟨Nat.le_of_ble_eq_true rfl, Nat.le_of_ble_eq_true rfl⟩ [.int (nI 2)] [va_rf (some a_145), va_rf (some b0)] (met_J2_init hw) rfl (by simp only [List.map_cons, List.map_nil, List.sum_cons, List.sum_nil, v_rf1, v_cI, v_cJ]; decide) ⟨e_171, e_172⟩ dX1_init_151 rfl (v_kv (fun h_152 hv => ?_))
  clear hw
  have hw := hv
  clear hv
  obtain ⟨fs_153, e_154, e_155, hw⟩ := hw
  obtain ⟨h_156, eh_156⟩ : ∃ z9 : AH, z9 = va_up h_152 b0 (some (.inr (1, fs_153.set 15 (va_rf (some a_145))))) := ⟨_, rfl⟩
  replace hw := hw h_156 eh_156
  refine v_put in_X1 (ci := 1) rfl 15 (Nat.le_of_ble_eq_true rfl) tyX1 tyX1_ok nmX1 q249 rfl rfl rfl (v_rfn _ _).1 (v_rfn _ _).2 dX1_init_154 e_154 e_155 ?_
  rw [← eh_156]
  refine v_aload_n (q := 0) dX1_init_157 rfl rfl ?_
  obtain ⟨e_160, e_161, hw⟩ := hw
  refine v_new in_X2 (ci := 3) rfl tyX2 tyX2_ok q191 q192 q109 dfX2_ok e_160 e_161 dX1_init_158 (fun a_157 e_158 => ?_)
  obtain ⟨h_159, eh_159⟩ : ∃ z9 : AH, z9 = va_up h_156 a_157 (some (.inr (3, dfX2))) := ⟨_, rfl⟩
  replace hw := hw a_157 e_158 h_159 eh_159
  rw [← eh_159]
  refine v_dup dX1_init_161 (v_rf1 _) ?_
  obtain ⟨e_169, e_170, hw⟩ := hw
  refine v_callIN q193 q194 q109 q195 rfl n_X2_init ⟨Nat.le_of_ble_eq_true rfl, Nat.le_of_ble_eq_true rfl⟩ [] [va_rf (some a_157), va_rf (some b0)] (met_X2_init hw) rfl (by simp only [List.map_cons, List.map_nil, List.sum_cons, List.sum_nil, v_rf1, v_cI, v_cJ]; decide) ⟨e_169, e_170⟩ dX1_init_162 rfl (v_kv (fun h_164 hv => ?_))
  clear hw
  have hw := hv
  clear hv
  obtain ⟨fs_165, e_166, e_167, hw⟩ := hw
  obtain ⟨h_168, eh_168⟩ : ∃ z9 : AH, z9 = va_up h_164 b0 (some (.inr (1, fs_165.set 16 (va_rf (some a_157))))) := ⟨_, rfl⟩
  replace hw := hw h_168 eh_168
  refine v_put in_X1 (ci := 1) rfl 16 (Nat.le_of_ble_eq_true rfl) tyX1 tyX1_ok nmX1 q251 rfl rfl rfl (v_rfn _ _).1 (v_rfn _ _).2 dX1_init_165 e_166 e_167 ?_
  rw [← eh_168]
  exact v_vret dX1_init_168 rfl ⟨rfl, hw⟩
theorem met_X1_init {post : (AH) → Prop}   {b0 : Nat} {h : AH}  (hw : w_X1_init post  b0 h) : Mt l E yX1_init (ws_ yX1_init cX1_init 1 none) r_X1_init [va_rf (some b0)] h (vpv (fun (h' : AH) => post h')) := v_entry (by decide +kernel) (Nat.le_of_ble_eq_true rfl) rfl (fun _ => e_X1_init hw)
/-! X3_init -/
abbrev r_X3_init : Room := { frames := 1, cells := 0, slots := 0, locals := 20 }
theorem n_X3_init : vdn yX3_init 0 := ⟨by decide +kernel, by decide +kernel, by decide +kernel⟩
def w_X3_init (post : Prop) (b0 : Nat) (h : AH) : Prop :=
 (post)
theorem e_X3_init {post : Prop}   {b0 : Nat} {h : AH}  (hw : w_X3_init post  b0 h) : VV l E X cX3_init RX3 "<init>" 1 r_X3_init none (vpv (fun (h' : AH) => h' = h ∧ post)) h 0 0 0 [(0, va_rf (some b0))] [] := by
  refine v_aload_n (q := 0) dX3_init_0 rfl rfl ?_
  refine v_objInit q294 q154 q155 (Nat.zero_le _) (Nat.le_of_ble_eq_true rfl) (Nat.le_of_ble_eq_true rfl) dX3_init_1 ?_
  exact v_vret dX3_init_4 rfl ⟨rfl, rfl, hw⟩
theorem met_X3_init {post : Prop}   {b0 : Nat} {h : AH}  (hw : w_X3_init post  b0 h) : Mt l E yX3_init (ws_ yX3_init cX3_init 1 none) r_X3_init [va_rf (some b0)] h (vpv (fun (h' : AH) => h' = h ∧ post)) := v_entry (by decide +kernel) (Nat.le_of_ble_eq_true rfl) rfl (fun _ => e_X3_init hw)
/-! X4_init -/
abbrev r_X4_init : Room := { frames := 1, cells := 0, slots := 0, locals := 20 }
theorem n_X4_init : vdn yX4_init 0 := ⟨by decide +kernel, by decide +kernel, by decide +kernel⟩
def w_X4_init (post : Prop) (b0 : Nat) (h : AH) : Prop :=
 (post)
theorem e_X4_init {post : Prop}   {b0 : Nat} {h : AH}  (hw : w_X4_init post  b0 h) : VV l E X cX4_init RX4 "<init>" 1 r_X4_init none (vpv (fun (h' : AH) => h' = h ∧ post)) h 0 0 0 [(0, va_rf (some b0))] [] := by
  refine v_aload_n (q := 0) dX4_init_0 rfl rfl ?_
  refine v_objInit q302 q154 q155 (Nat.zero_le _) (Nat.le_of_ble_eq_true rfl) (Nat.le_of_ble_eq_true rfl) dX4_init_1 ?_
  exact v_vret dX4_init_4 rfl ⟨rfl, rfl, hw⟩
theorem met_X4_init {post : Prop}   {b0 : Nat} {h : AH}  (hw : w_X4_init post  b0 h) : Mt l E yX4_init (ws_ yX4_init cX4_init 1 none) r_X4_init [va_rf (some b0)] h (vpv (fun (h' : AH) => h' = h ∧ post)) := v_entry (by decide +kernel) (Nat.le_of_ble_eq_true rfl) rfl (fun _ => e_X4_init hw)
/-! X5_init -/
abbrev r_X5_init : Room := { frames := 1, cells := 0, slots := 0, locals := 20 }
theorem n_X5_init : vdn yX5_init 0 := ⟨by decide +kernel, by decide +kernel, by decide +kernel⟩
def w_X5_init (post : Prop) (b0 : Nat) (h : AH) : Prop :=
 (post)
theorem e_X5_init {post : Prop}   {b0 : Nat} {h : AH}  (hw : w_X5_init post  b0 h) : VV l E X cX5_init RX5 "<init>" 1 r_X5_init none (vpv (fun (h' : AH) => h' = h ∧ post)) h 0 0 0 [(0, va_rf (some b0))] [] := by
  refine v_aload_n (q := 0) dX5_init_0 rfl rfl ?_
  refine v_objInit q312 q154 q155 (Nat.zero_le _) (Nat.le_of_ble_eq_true rfl) (Nat.le_of_ble_eq_true rfl) dX5_init_1 ?_
  exact v_vret dX5_init_4 rfl ⟨rfl, rfl, hw⟩
theorem met_X5_init {post : Prop}   {b0 : Nat} {h : AH}  (hw : w_X5_init post  b0 h) : Mt l E yX5_init (ws_ yX5_init cX5_init 1 none) r_X5_init [va_rf (some b0)] h (vpv (fun (h' : AH) => h' = h ∧ post)) := v_entry (by decide +kernel) (Nat.le_of_ble_eq_true rfl) rfl (fun _ => e_X5_init hw)
/-! X0_init -/
abbrev r_X0_init : Room := { frames := 5, cells := 80, slots := 3000, locals := 101 }
theorem n_X0_init : vdn yX0_init 0 := ⟨by decide +kernel, by decide +kernel, by decide +kernel⟩
def w_X0_init (post : (AH) → Prop) (b0 : Nat) (h : AH) : Prop :=
 (∃ N_8 : Nat, ¬ (nI 81) < 0 ∧ ((nI 81)).toNatClampNeg = N_8 ∧ (N_8 ≤ 65536 ∧ 0 + 1 ≤ 80) ∧ 0 + N_8 ≤ 3000 ∧ ∀ a_1 : Nat, h a_1 = none → ∀ h_3 : AH, h_3 = va_up h a_1 (some (.inl (0, N_8, .inl (fun _ => 0)))) → (∃ fs_9 : List Value, h_3 b0 = some (.inr (0, fs_9)) ∧ 0 < fs_9.length ∧ ∀ h_12 : AH, h_12 = va_up h_3 b0 (some (.inr (0, fs_9.set 0 (va_rf (some a_1))))) → ((0 + 1) + 1 ≤ 80 ∧ (0 + N_8) + 17 ≤ 3000 ∧ ∀ a_13 : Nat, h_12 a_13 = none → ∀ h_15 : AH, h_15 = va_up h_12 a_13 (some (.inr (1, dfX1))) → (((0 + 1) + 1) + 23 ≤ 80 ∧ ((0 + N_8) + 17) + 700 ≤ 3000 ∧ (w_X1_init (fun (h_20 : AH) => (∃ fs_21 : List Value, h_20 b0 = some (.inr (0, fs_21)) ∧ 1 < fs_21.length ∧ ∀ h_24 : AH, h_24 = va_up h_20 b0 (some (.inr (0, fs_21.set 1 (va_rf (some a_13))))) → (∃ N_32 : Nat, ¬ (nI 2) < 0 ∧ ((nI 2)).toNatClampNeg = N_32 ∧ (N_32 ≤ 65536 ∧ (((0 + 1) + 1) + 23) + 1 ≤ 80) ∧ (((0 + N_8) + 17) + 700) + N_32 ≤ 3000 ∧ ∀ a_25 : Nat, h_24 a_25 = none → ∀ h_27 : AH, h_27 = va_up h_24 a_25 (some (.inl (7, N_32, .inr (.inr (.inr (.inr (fun _ => none))))))) → (∃ fs_33 : List Value, h_27 b0 = some (.inr (0, fs_33)) ∧ 2 < fs_33.length ∧ ∀ h_36 : AH, h_36 = va_up h_27 b0 (some (.inr (0, fs_33.set 2 (va_rf (some a_25))))) → (∃ N_44 : Nat, ¬ (nI 8) < 0 ∧ ((nI 8)).toNatClampNeg = N_44 ∧ (N_44 ≤ 65536 ∧ ((((0 + 1) + 1) + 23) + 1) + 1 ≤ 80) ∧ ((((0 + N_8) + 17) + 700) + N_32) + N_44 ≤ 3000 ∧ ∀ a_37 : Nat, h_36 a_37 = none → ∀ h_39 : AH, h_39 = va_up h_36 a_37 (some (.inl (0, N_44, .inl (fun _ => 0)))) → (∃ fs_45 : List Value, h_39 b0 = some (.inr (0, fs_45)) ∧ 3 < fs_45.length ∧ ∀ h_48 : AH, h_48 = va_up h_39 b0 (some (.inr (0, fs_45.set 3 (va_rf (some a_37))))) → (∃ N_56 : Nat, ¬ (nI 400) < 0 ∧ ((nI 400)).toNatClampNeg = N_56 ∧ (N_56 ≤ 65536 ∧ (((((0 + 1) + 1) + 23) + 1) + 1) + 1 ≤ 80) ∧ (((((0 + N_8) + 17) + 700) + N_32) + N_44) + N_56 ≤ 3000 ∧ ∀ a_49 : Nat, h_48 a_49 = none → ∀ h_51 : AH, h_51 = va_up h_48 a_49 (some (.inl (2, N_56, .inl (fun _ => 0)))) → (∃ fs_57 : List Value, h_51 b0 = some (.inr (0, fs_57)) ∧ 4 < fs_57.length ∧ ∀ h_60 : AH, h_60 = va_up h_51 b0 (some (.inr (0, fs_57.set 4 (va_rf (some a_49))))) → (∃ fs_61 : List Value, h_60 b0 = some (.inr (0, fs_61)) ∧ 7 < fs_61.length ∧ ∀ h_64 : AH, h_64 = va_up h_60 b0 (some (.inr (0, fs_61.set 7 (.int (-1))))) → (((((((0 + 1) + 1) + 23) + 1) + 1) + 1) + 1 ≤ 80 ∧ ((((((0 + N_8) + 17) + 700) + N_32) + N_44) + N_56) + 0 ≤ 3000 ∧ ∀ a_65 : Nat, h_64 a_65 = none → ∀ h_67 : AH, h_67 = va_up h_64 a_65 (some (.inr (4, dfX3))) → (w_X3_init (∃ fs_72 : List Value, h_67 b0 = some (.inr (0, fs_72)) ∧ 9 < fs_72.length ∧ ∀ h_75 : AH, h_75 = va_up h_67 b0 (some (.inr (0, fs_72.set 9 (va_rf (some a_65))))) → ((((((((0 + 1) + 1) + 23) + 1) + 1) + 1) + 1) + 1 ≤ 80 ∧ (((((((0 + N_8) + 17) + 700) + N_32) + N_44) + N_56) + 0) + 0 ≤ 3000 ∧ ∀ a_76 : Nat, h_75 a_76 = none → ∀ h_78 : AH, h_78 = va_up h_75 a_76 (some (.inr (5, dfX4))) → (w_X4_init (∃ fs_83 : List Value, h_78 b0 = some (.inr (0, fs_83)) ∧ 10 < fs_83.length ∧ ∀ h_86 : AH, h_86 = va_up h_78 b0 (some (.inr (0, fs_83.set 10 (va_rf (some a_76))))) → (∃ N_94 : Nat, ¬ (nI 480) < 0 ∧ ((nI 480)).toNatClampNeg = N_94 ∧ (N_94 ≤ 65536 ∧ ((((((((0 + 1) + 1) + 23) + 1) + 1) + 1) + 1) + 1) + 1 ≤ 80) ∧ ((((((((0 + N_8) + 17) + 700) + N_32) + N_44) + N_56) + 0) + 0) + N_94 ≤ 3000 ∧ ∀ a_87 : Nat, h_86 a_87 = none → ∀ h_89 : AH, h_89 = va_up h_86 a_87 (some (.inl (6, N_94, .inr (.inr (.inr (.inr (fun _ => none))))))) → (∃ fs_95 : List Value, h_89 b0 = some (.inr (0, fs_95)) ∧ 14 < fs_95.length ∧ ∀ h_98 : AH, h_98 = va_up h_89 b0 (some (.inr (0, fs_95.set 14 (va_rf (some a_87))))) → (∃ N_106 : Nat, ¬ (nI 12) < 0 ∧ ((nI 12)).toNatClampNeg = N_106 ∧ (N_106 ≤ 65536 ∧ (((((((((0 + 1) + 1) + 23) + 1) + 1) + 1) + 1) + 1) + 1) + 1 ≤ 80) ∧ (((((((((0 + N_8) + 17) + 700) + N_32) + N_44) + N_56) + 0) + 0) + N_94) + N_106 ≤ 3000 ∧ ∀ a_99 : Nat, h_98 a_99 = none → ∀ h_101 : AH, h_101 = va_up h_98 a_99 (some (.inl (6, N_106, .inr (.inr (.inr (.inr (fun _ => none))))))) → (∃ fs_107 : List Value, h_101 b0 = some (.inr (0, fs_107)) ∧ 15 < fs_107.length ∧ ∀ h_110 : AH, h_110 = va_up h_101 b0 (some (.inr (0, fs_107.set 15 (va_rf (some a_99))))) → (∃ N_118 : Nat, ¬ (nI 6) < 0 ∧ ((nI 6)).toNatClampNeg = N_118 ∧ (N_118 ≤ 65536 ∧ ((((((((((0 + 1) + 1) + 23) + 1) + 1) + 1) + 1) + 1) + 1) + 1) + 1 ≤ 80) ∧ ((((((((((0 + N_8) + 17) + 700) + N_32) + N_44) + N_56) + 0) + 0) + N_94) + N_106) + N_118 ≤ 3000 ∧ ∀ a_111 : Nat, h_110 a_111 = none → ∀ h_113 : AH, h_113 = va_up h_110 a_111 (some (.inl (0, N_118, .inl (fun _ => 0)))) → (∃ fs_119 : List Value, h_113 b0 = some (.inr (0, fs_119)) ∧ 17 < fs_119.length ∧ ∀ h_122 : AH, h_122 = va_up h_113 b0 (some (.inr (0, fs_119.set 17 (va_rf (some a_111))))) → (∃ N_130 : Nat, ¬ (nI 256) < 0 ∧ ((nI 256)).toNatClampNeg = N_130 ∧ (N_130 ≤ 65536 ∧ (((((((((((0 + 1) + 1) + 23) + 1) + 1) + 1) + 1) + 1) + 1) + 1) + 1) + 1 ≤ 80) ∧ (((((((((((0 + N_8) + 17) + 700) + N_32) + N_44) + N_56) + 0) + 0) + N_94) + N_106) + N_118) + N_130 ≤ 3000 ∧ ∀ a_123 : Nat, h_122 a_123 = none → ∀ h_125 : AH, h_125 = va_up h_122 a_123 (some (.inl (0, N_130, .inl (fun _ => 0)))) → (∃ fs_131 : List Value, h_125 b0 = some (.inr (0, fs_131)) ∧ 20 < fs_131.length ∧ ∀ h_134 : AH, h_134 = va_up h_125 b0 (some (.inr (0, fs_131.set 20 (va_rf (some a_123))))) → (∃ N_142 : Nat, ¬ (nI 256) < 0 ∧ ((nI 256)).toNatClampNeg = N_142 ∧ (N_142 ≤ 65536 ∧ ((((((((((((0 + 1) + 1) + 23) + 1) + 1) + 1) + 1) + 1) + 1) + 1) + 1) + 1) + 1 ≤ 80) ∧ ((((((((((((0 + N_8) + 17) + 700) + N_32) + N_44) + N_56) + 0) + 0) + N_94) + N_106) + N_118) + N_130) + N_142 ≤ 3000 ∧ ∀ a_135 : Nat, h_134 a_135 = none → ∀ h_137 : AH, h_137 = va_up h_134 a_135 (some (.inl (0, N_142, .inl (fun _ => 0)))) → (∃ fs_143 : List Value, h_137 b0 = some (.inr (0, fs_143)) ∧ 21 < fs_143.length ∧ ∀ h_146 : AH, h_146 = va_up h_137 b0 (some (.inr (0, fs_143.set 21 (va_rf (some a_135))))) → (∃ N_154 : Nat, ¬ (nI 4) < 0 ∧ ((nI 4)).toNatClampNeg = N_154 ∧ (N_154 ≤ 65536 ∧ (((((((((((((0 + 1) + 1) + 23) + 1) + 1) + 1) + 1) + 1) + 1) + 1) + 1) + 1) + 1) + 1 ≤ 80) ∧ (((((((((((((0 + N_8) + 17) + 700) + N_32) + N_44) + N_56) + 0) + 0) + N_94) + N_106) + N_118) + N_130) + N_142) + N_154 ≤ 3000 ∧ ∀ a_147 : Nat, h_146 a_147 = none → ∀ h_149 : AH, h_149 = va_up h_146 a_147 (some (.inl (8, N_154, .inr (.inr (.inr (.inr (fun _ => none))))))) → (((((((((((((((0 + 1) + 1) + 23) + 1) + 1) + 1) + 1) + 1) + 1) + 1) + 1) + 1) + 1) + 1) + 1 ≤ 80 ∧ ((((((((((((((0 + N_8) + 17) + 700) + N_32) + N_44) + N_56) + 0) + 0) + N_94) + N_106) + N_118) + N_130) + N_142) + N_154) + 1 ≤ 3000 ∧ ∀ a_155 : Nat, h_149 a_155 = none → ∀ h_157 : AH, h_157 = va_up h_149 a_155 (some (.inr (6, dfX5))) → (w_X5_init (∃ fs_167 : List Value, h_157 a_155 = some (.inr (6, fs_167)) ∧ ∃ (N_162 : Nat) (g_163 : Nat → Option Nat), h_157 a_147 = (some (.inl (8, N_162, .inr (.inr (.inr (.inr g_163)))))) ∧ vp_in (nI 0) N_162 ∧ ∀ h_166 : AH, h_166 = va_up h_157 a_147 (some (.inl (8, N_162, .inr (.inr (.inr (.inr (va_up g_163 ((nI 0)).toNatClampNeg (some a_155)))))))) → ((((((((((((((((0 + 1) + 1) + 23) + 1) + 1) + 1) + 1) + 1) + 1) + 1) + 1) + 1) + 1) + 1) + 1) + 1 ≤ 80 ∧ (((((((((((((((0 + N_8) + 17) + 700) + N_32) + N_44) + N_56) + 0) + 0) + N_94) + N_106) + N_118) + N_130) + N_142) + N_154) + 1) + 1 ≤ 3000 ∧ ∀ a_171 : Nat, h_166 a_171 = none → ∀ h_173 : AH, h_173 = va_up h_166 a_171 (some (.inr (6, dfX5))) → (w_X5_init (∃ fs_183 : List Value, h_173 a_171 = some (.inr (6, fs_183)) ∧ ∃ (N_178 : Nat) (g_179 : Nat → Option Nat), h_173 a_147 = (some (.inl (8, N_178, .inr (.inr (.inr (.inr g_179)))))) ∧ vp_in (nI 1) N_178 ∧ ∀ h_182 : AH, h_182 = va_up h_173 a_147 (some (.inl (8, N_178, .inr (.inr (.inr (.inr (va_up g_179 ((nI 1)).toNatClampNeg (some a_171)))))))) → (((((((((((((((((0 + 1) + 1) + 23) + 1) + 1) + 1) + 1) + 1) + 1) + 1) + 1) + 1) + 1) + 1) + 1) + 1) + 1 ≤ 80 ∧ ((((((((((((((((0 + N_8) + 17) + 700) + N_32) + N_44) + N_56) + 0) + 0) + N_94) + N_106) + N_118) + N_130) + N_142) + N_154) + 1) + 1) + 1 ≤ 3000 ∧ ∀ a_187 : Nat, h_182 a_187 = none → ∀ h_189 : AH, h_189 = va_up h_182 a_187 (some (.inr (6, dfX5))) → (w_X5_init (∃ fs_199 : List Value, h_189 a_187 = some (.inr (6, fs_199)) ∧ ∃ (N_194 : Nat) (g_195 : Nat → Option Nat), h_189 a_147 = (some (.inl (8, N_194, .inr (.inr (.inr (.inr g_195)))))) ∧ vp_in (nI 2) N_194 ∧ ∀ h_198 : AH, h_198 = va_up h_189 a_147 (some (.inl (8, N_194, .inr (.inr (.inr (.inr (va_up g_195 ((nI 2)).toNatClampNeg (some a_187)))))))) → ((((((((((((((((((0 + 1) + 1) + 23) + 1) + 1) + 1) + 1) + 1) + 1) + 1) + 1) + 1) + 1) + 1) + 1) + 1) + 1) + 1 ≤ 80 ∧ (((((((((((((((((0 + N_8) + 17) + 700) + N_32) + N_44) + N_56) + 0) + 0) + N_94) + N_106) + N_118) + N_130) + N_142) + N_154) + 1) + 1) + 1) + 1 ≤ 3000 ∧ ∀ a_203 : Nat, h_198 a_203 = none → ∀ h_205 : AH, h_205 = va_up h_198 a_203 (some (.inr (6, dfX5))) → (w_X5_init (∃ fs_215 : List Value, h_205 a_203 = some (.inr (6, fs_215)) ∧ ∃ (N_210 : Nat) (g_211 : Nat → Option Nat), h_205 a_147 = (some (.inl (8, N_210, .inr (.inr (.inr (.inr g_211)))))) ∧ vp_in (nI 3) N_210 ∧ ∀ h_214 : AH, h_214 = va_up h_205 a_147 (some (.inl (8, N_210, .inr (.inr (.inr (.inr (va_up g_211 ((nI 3)).toNatClampNeg (some a_203)))))))) → (∃ fs_219 : List Value, h_214 b0 = some (.inr (0, fs_219)) ∧ 22 < fs_219.length ∧ ∀ h_222 : AH, h_222 = va_up h_214 b0 (some (.inr (0, fs_219.set 22 (va_rf (some a_147))))) → (post h_222))) a_203 h_205))) a_187 h_189))) a_171 h_173))) a_155 h_157)))))))))))))) a_76 h_78))) a_65 h_67))))))))))) a_13 h_15)))))
theorem e_X0_init {post : (AH) → Prop}   {b0 : Nat} {h : AH}  (hw : w_X0_init post  b0 h) : VV l E X cX0_init RX0 "<init>" 1 r_X0_init none (vpv (fun (h' : AH) => post h')) h 0 0 0 [(0, va_rf (some b0))] [] := by
  refine v_aload_n (q := 0) dX0_init_0 rfl rfl ?_
  refine v_objInit q153 q154 q155 (Nat.zero_le _) (Nat.le_of_ble_eq_true rfl) (Nat.le_of_ble_eq_true rfl) dX0_init_1 ?_
  refine v_aload_n (q := 0) dX0_init_4 rfl rfl ?_
  refine v_bipush dX0_init_5 bp_81 ?_
  obtain ⟨N_8, e_4, e_7, e_5, e_6, hw⟩ := hw
  refine v_newaI q190 e_4 e_7 (Nat.le_trans (Nat.mul_le_mul_right _ e_5.1) (by decide)) e_5.2 e_6 dX0_init_7 (fun a_1 e_2 => ?_)
  obtain ⟨h_3, eh_3⟩ : ∃ z9 : AH, z9 = va_up h a_1 (some (.inl (0, N_8, .inl (fun _ => 0)))) := ⟨_, rfl⟩
  replace hw := hw a_1 e_2 h_3 eh_3
  rw [← eh_3]
  obtain ⟨fs_9, e_10, e_11, hw⟩ := hw
  obtain ⟨h_12, eh_12⟩ : ∃ z9 : AH, z9 = va_up h_3 b0 (some (.inr (0, fs_9.set 0 (va_rf (some a_1))))) := ⟨_, rfl⟩
  replace hw := hw h_12 eh_12
  refine v_putF in_X0 (ci := 0) rfl 0 (Nat.le_of_ble_eq_true rfl) tyX0 tyX0_ok nmX0 q318 rfl rfl rfl rfl rfl (v_rfa _ _).1 (v_rfa _ _).2 dX0_init_9 e_10 e_11 ?_
  rw [← eh_12]
  refine v_aload_n (q := 0) dX0_init_12 rfl rfl ?_
  obtain ⟨e_16, e_17, hw⟩ := hw
  refine v_new in_X1 (ci := 1) rfl tyX1 tyX1_ok q156 q157 q105 dfX1_ok e_16 e_17 dX0_init_13 (fun a_13 e_14 => ?_)
  obtain ⟨h_15, eh_15⟩ : ∃ z9 : AH, z9 = va_up h_12 a_13 (some (.inr (1, dfX1))) := ⟨_, rfl⟩
  replace hw := hw a_13 e_14 h_15 eh_15
  rw [← eh_15]
  refine v_dup dX0_init_16 (v_rf1 _) ?_
  obtain ⟨e_223, e_224, hw⟩ := hw
  refine v_callIN q158 q159 q105 q160 rfl n_X1_init ⟨Nat.le_of_ble_eq_true rfl, Nat.le_of_ble_eq_true rfl⟩ [] [va_rf (some a_13), va_rf (some b0)] (met_X1_init hw) rfl (by simp only [List.map_cons, List.map_nil, List.sum_cons, List.sum_nil, v_rf1, v_cI, v_cJ]; decide) ⟨e_223, e_224⟩ dX0_init_17 rfl (v_kv (fun h_20 hv => ?_))
  clear hw
  have hw := hv
  clear hv
  obtain ⟨fs_21, e_22, e_23, hw⟩ := hw
  obtain ⟨h_24, eh_24⟩ : ∃ z9 : AH, z9 = va_up h_20 b0 (some (.inr (0, fs_21.set 1 (va_rf (some a_13))))) := ⟨_, rfl⟩
  replace hw := hw h_24 eh_24
  refine v_put in_X0 (ci := 0) rfl 1 (Nat.le_of_ble_eq_true rfl) tyX0 tyX0_ok nmX0 q319 rfl rfl rfl (v_rfn _ _).1 (v_rfn _ _).2 dX0_init_20 e_22 e_23 ?_
  rw [← eh_24]
  refine v_aload_n (q := 0) dX0_init_23 rfl rfl ?_
  refine v_iconst dX0_init_24 ic_2 ?_
  obtain ⟨N_32, e_28, e_31, e_29, e_30, hw⟩ := hw
  refine v_newqS q156 q288 e_28 e_31 (Nat.le_trans (Nat.mul_le_mul_right _ e_29.1) (by decide)) e_29.2 e_30 dX0_init_25 (fun a_25 e_26 => ?_)
  obtain ⟨h_27, eh_27⟩ : ∃ z9 : AH, z9 = va_up h_24 a_25 (some (.inl (7, N_32, .inr (.inr (.inr (.inr (fun _ => none))))))) := ⟨_, rfl⟩
  replace hw := hw a_25 e_26 h_27 eh_27
  rw [← eh_27]
  obtain ⟨fs_33, e_34, e_35, hw⟩ := hw
  obtain ⟨h_36, eh_36⟩ : ∃ z9 : AH, z9 = va_up h_27 b0 (some (.inr (0, fs_33.set 2 (va_rf (some a_25))))) := ⟨_, rfl⟩
  replace hw := hw h_36 eh_36
  refine v_putF in_X0 (ci := 0) rfl 2 (Nat.le_of_ble_eq_true rfl) tyX0 tyX0_ok nmX0 q320 rfl rfl rfl rfl rfl (v_rfa _ _).1 (v_rfa _ _).2 dX0_init_28 e_34 e_35 ?_
  rw [← eh_36]
  refine v_aload_n (q := 0) dX0_init_31 rfl rfl ?_
  refine v_bipush dX0_init_32 bp_8 ?_
  obtain ⟨N_44, e_40, e_43, e_41, e_42, hw⟩ := hw
  refine v_newaI q190 e_40 e_43 (Nat.le_trans (Nat.mul_le_mul_right _ e_41.1) (by decide)) e_41.2 e_42 dX0_init_34 (fun a_37 e_38 => ?_)
  obtain ⟨h_39, eh_39⟩ : ∃ z9 : AH, z9 = va_up h_36 a_37 (some (.inl (0, N_44, .inl (fun _ => 0)))) := ⟨_, rfl⟩
  replace hw := hw a_37 e_38 h_39 eh_39
  rw [← eh_39]
  obtain ⟨fs_45, e_46, e_47, hw⟩ := hw
  obtain ⟨h_48, eh_48⟩ : ∃ z9 : AH, z9 = va_up h_39 b0 (some (.inr (0, fs_45.set 3 (va_rf (some a_37))))) := ⟨_, rfl⟩
  replace hw := hw h_48 eh_48
  refine v_putF in_X0 (ci := 0) rfl 3 (Nat.le_of_ble_eq_true rfl) tyX0 tyX0_ok nmX0 q321 rfl rfl rfl rfl rfl (v_rfa _ _).1 (v_rfa _ _).2 dX0_init_36 e_46 e_47 ?_
  rw [← eh_48]
  refine v_aload_n (q := 0) dX0_init_39 rfl rfl ?_
  refine v_sipush dX0_init_40 sp_400 ?_
  obtain ⟨N_56, e_52, e_55, e_53, e_54, hw⟩ := hw
  refine v_newaB q296 e_52 e_55 (Nat.le_trans (Nat.mul_le_mul_right _ e_53.1) (by decide)) e_53.2 e_54 dX0_init_43 (fun a_49 e_50 => ?_)
  obtain ⟨h_51, eh_51⟩ : ∃ z9 : AH, z9 = va_up h_48 a_49 (some (.inl (2, N_56, .inl (fun _ => 0)))) := ⟨_, rfl⟩
  replace hw := hw a_49 e_50 h_51 eh_51
  rw [← eh_51]
  obtain ⟨fs_57, e_58, e_59, hw⟩ := hw
  obtain ⟨h_60, eh_60⟩ : ∃ z9 : AH, z9 = va_up h_51 b0 (some (.inr (0, fs_57.set 4 (va_rf (some a_49))))) := ⟨_, rfl⟩
  replace hw := hw h_60 eh_60
  refine v_putF in_X0 (ci := 0) rfl 4 (Nat.le_of_ble_eq_true rfl) tyX0 tyX0_ok nmX0 q323 rfl rfl rfl rfl rfl (v_rfa _ _).1 (v_rfa _ _).2 dX0_init_45 e_58 e_59 ?_
  rw [← eh_60]
  refine v_aload_n (q := 0) dX0_init_48 rfl rfl ?_
  refine v_iconst dX0_init_49 ic_m1 ?_
  obtain ⟨fs_61, e_62, e_63, hw⟩ := hw
  obtain ⟨h_64, eh_64⟩ : ∃ z9 : AH, z9 = va_up h_60 b0 (some (.inr (0, fs_61.set 7 (.int (-1))))) := ⟨_, rfl⟩
  replace hw := hw h_64 eh_64
  refine v_put in_X0 (ci := 0) rfl 7 (Nat.le_of_ble_eq_true rfl) tyX0 tyX0_ok nmX0 q326 rfl rfl rfl rfl rfl dX0_init_50 e_62 e_63 ?_
  rw [← eh_64]
  refine v_aload_n (q := 0) dX0_init_53 rfl rfl ?_
  obtain ⟨e_68, e_69, hw⟩ := hw
  refine v_new in_X3 (ci := 4) rfl tyX3 tyX3_ok q289 q290 q110 dfX3_ok e_68 e_69 dX0_init_54 (fun a_65 e_66 => ?_)
  obtain ⟨h_67, eh_67⟩ : ∃ z9 : AH, z9 = va_up h_64 a_65 (some (.inr (4, dfX3))) := ⟨_, rfl⟩
  replace hw := hw a_65 e_66 h_67 eh_67
  rw [← eh_67]
  refine v_dup dX0_init_57 (v_rf1 _) ?_
  refine v_callIN0 q291 q292 q110 q293 rfl n_X3_init ⟨Nat.le_of_ble_eq_true rfl, Nat.le_of_ble_eq_true rfl⟩ [] [va_rf (some a_65), va_rf (some b0)] (met_X3_init hw) rfl (by simp only [List.map_cons, List.map_nil, List.sum_cons, List.sum_nil, v_rf1, v_cI, v_cJ]; decide) rfl rfl dX0_init_58 rfl (v_kv (fun h1 hv => ?_))
  clear hw
  obtain ⟨e9, hw⟩ := hv
  refine v_heap e9 ?_
  clear e9
  obtain ⟨fs_72, e_73, e_74, hw⟩ := hw
  obtain ⟨h_75, eh_75⟩ : ∃ z9 : AH, z9 = va_up h_67 b0 (some (.inr (0, fs_72.set 9 (va_rf (some a_65))))) := ⟨_, rfl⟩
  replace hw := hw h_75 eh_75
  refine v_putF in_X0 (ci := 0) rfl 9 (Nat.le_of_ble_eq_true rfl) tyX0 tyX0_ok nmX0 q328 rfl rfl rfl rfl rfl (v_rfn _ _).1 (v_rfn _ _).2 dX0_init_61 e_73 e_74 ?_
  rw [← eh_75]
  refine v_aload_n (q := 0) dX0_init_64 rfl rfl ?_
  obtain ⟨e_79, e_80, hw⟩ := hw
  refine v_new in_X4 (ci := 5) rfl tyX4 tyX4_ok q297 q298 q111 dfX4_ok e_79 e_80 dX0_init_65 (fun a_76 e_77 => ?_)
  obtain ⟨h_78, eh_78⟩ : ∃ z9 : AH, z9 = va_up h_75 a_76 (some (.inr (5, dfX4))) := ⟨_, rfl⟩
  replace hw := hw a_76 e_77 h_78 eh_78
  rw [← eh_78]
  refine v_dup dX0_init_68 (v_rf1 _) ?_
  refine v_callIN0 q299 q300 q111 q301 rfl n_X4_init ⟨Nat.le_of_ble_eq_true rfl, Nat.le_of_ble_eq_true rfl⟩ [] [va_rf (some a_76), va_rf (some b0)] (met_X4_init hw) rfl (by simp only [List.map_cons, List.map_nil, List.sum_cons, List.sum_nil, v_rf1, v_cI, v_cJ]; decide) rfl rfl dX0_init_69 rfl (v_kv (fun h1 hv => ?_))
  clear hw
  obtain ⟨e9, hw⟩ := hv
  refine v_heap e9 ?_
  clear e9
  obtain ⟨fs_83, e_84, e_85, hw⟩ := hw
  obtain ⟨h_86, eh_86⟩ : ∃ z9 : AH, z9 = va_up h_78 b0 (some (.inr (0, fs_83.set 10 (va_rf (some a_76))))) := ⟨_, rfl⟩
  replace hw := hw h_86 eh_86
  refine v_putF in_X0 (ci := 0) rfl 10 (Nat.le_of_ble_eq_true rfl) tyX0 tyX0_ok nmX0 q329 rfl rfl rfl rfl rfl (v_rfn _ _).1 (v_rfn _ _).2 dX0_init_72 e_84 e_85 ?_
  rw [← eh_86]
  refine v_aload_n (q := 0) dX0_init_75 rfl rfl ?_
  refine v_sipush dX0_init_76 sp_480 ?_
  obtain ⟨N_94, e_90, e_93, e_91, e_92, hw⟩ := hw
  refine v_newqP q304 q305 e_90 e_93 (Nat.le_trans (Nat.mul_le_mul_right _ e_91.1) (by decide)) e_91.2 e_92 dX0_init_79 (fun a_87 e_88 => ?_)
  obtain ⟨h_89, eh_89⟩ : ∃ z9 : AH, z9 = va_up h_86 a_87 (some (.inl (6, N_94, .inr (.inr (.inr (.inr (fun _ => none))))))) := ⟨_, rfl⟩
  replace hw := hw a_87 e_88 h_89 eh_89
  rw [← eh_89]
  obtain ⟨fs_95, e_96, e_97, hw⟩ := hw
  obtain ⟨h_98, eh_98⟩ : ∃ z9 : AH, z9 = va_up h_89 b0 (some (.inr (0, fs_95.set 14 (va_rf (some a_87))))) := ⟨_, rfl⟩
  replace hw := hw h_98 eh_98
  refine v_putF in_X0 (ci := 0) rfl 14 (Nat.le_of_ble_eq_true rfl) tyX0 tyX0_ok nmX0 q333 rfl rfl rfl rfl rfl (v_rfa _ _).1 (v_rfa _ _).2 dX0_init_82 e_96 e_97 ?_
  rw [← eh_98]
  refine v_aload_n (q := 0) dX0_init_85 rfl rfl ?_
  refine v_bipush dX0_init_86 bp_12 ?_
  obtain ⟨N_106, e_102, e_105, e_103, e_104, hw⟩ := hw
  refine v_newqP q304 q305 e_102 e_105 (Nat.le_trans (Nat.mul_le_mul_right _ e_103.1) (by decide)) e_103.2 e_104 dX0_init_88 (fun a_99 e_100 => ?_)
  obtain ⟨h_101, eh_101⟩ : ∃ z9 : AH, z9 = va_up h_98 a_99 (some (.inl (6, N_106, .inr (.inr (.inr (.inr (fun _ => none))))))) := ⟨_, rfl⟩
  replace hw := hw a_99 e_100 h_101 eh_101
  rw [← eh_101]
  obtain ⟨fs_107, e_108, e_109, hw⟩ := hw
  obtain ⟨h_110, eh_110⟩ : ∃ z9 : AH, z9 = va_up h_101 b0 (some (.inr (0, fs_107.set 15 (va_rf (some a_99))))) := ⟨_, rfl⟩
  replace hw := hw h_110 eh_110
  refine v_putF in_X0 (ci := 0) rfl 15 (Nat.le_of_ble_eq_true rfl) tyX0 tyX0_ok nmX0 q334 rfl rfl rfl rfl rfl (v_rfa _ _).1 (v_rfa _ _).2 dX0_init_91 e_108 e_109 ?_
  rw [← eh_110]
  refine v_aload_n (q := 0) dX0_init_94 rfl rfl ?_
  refine v_bipush dX0_init_95 bp_6 ?_
  obtain ⟨N_118, e_114, e_117, e_115, e_116, hw⟩ := hw
  refine v_newaI q190 e_114 e_117 (Nat.le_trans (Nat.mul_le_mul_right _ e_115.1) (by decide)) e_115.2 e_116 dX0_init_97 (fun a_111 e_112 => ?_)
  obtain ⟨h_113, eh_113⟩ : ∃ z9 : AH, z9 = va_up h_110 a_111 (some (.inl (0, N_118, .inl (fun _ => 0)))) := ⟨_, rfl⟩
  replace hw := hw a_111 e_112 h_113 eh_113
  rw [← eh_113]
  obtain ⟨fs_119, e_120, e_121, hw⟩ := hw
  obtain ⟨h_122, eh_122⟩ : ∃ z9 : AH, z9 = va_up h_113 b0 (some (.inr (0, fs_119.set 17 (va_rf (some a_111))))) := ⟨_, rfl⟩
  replace hw := hw h_122 eh_122
  refine v_putF in_X0 (ci := 0) rfl 17 (Nat.le_of_ble_eq_true rfl) tyX0 tyX0_ok nmX0 q336 rfl rfl rfl rfl rfl (v_rfa _ _).1 (v_rfa _ _).2 dX0_init_99 e_120 e_121 ?_
  rw [← eh_122]
  refine v_aload_n (q := 0) dX0_init_102 rfl rfl ?_
  refine v_sipush dX0_init_103 sp_256 ?_
  obtain ⟨N_130, e_126, e_129, e_127, e_128, hw⟩ := hw
  refine v_newaI q190 e_126 e_129 (Nat.le_trans (Nat.mul_le_mul_right _ e_127.1) (by decide)) e_127.2 e_128 dX0_init_106 (fun a_123 e_124 => ?_)
  obtain ⟨h_125, eh_125⟩ : ∃ z9 : AH, z9 = va_up h_122 a_123 (some (.inl (0, N_130, .inl (fun _ => 0)))) := ⟨_, rfl⟩
  replace hw := hw a_123 e_124 h_125 eh_125
  rw [← eh_125]
  obtain ⟨fs_131, e_132, e_133, hw⟩ := hw
  obtain ⟨h_134, eh_134⟩ : ∃ z9 : AH, z9 = va_up h_125 b0 (some (.inr (0, fs_131.set 20 (va_rf (some a_123))))) := ⟨_, rfl⟩
  replace hw := hw h_134 eh_134
  refine v_putF in_X0 (ci := 0) rfl 20 (Nat.le_of_ble_eq_true rfl) tyX0 tyX0_ok nmX0 q339 rfl rfl rfl rfl rfl (v_rfa _ _).1 (v_rfa _ _).2 dX0_init_108 e_132 e_133 ?_
  rw [← eh_134]
  refine v_aload_n (q := 0) dX0_init_111 rfl rfl ?_
  refine v_sipush dX0_init_112 sp_256 ?_
  obtain ⟨N_142, e_138, e_141, e_139, e_140, hw⟩ := hw
  refine v_newaI q190 e_138 e_141 (Nat.le_trans (Nat.mul_le_mul_right _ e_139.1) (by decide)) e_139.2 e_140 dX0_init_115 (fun a_135 e_136 => ?_)
  obtain ⟨h_137, eh_137⟩ : ∃ z9 : AH, z9 = va_up h_134 a_135 (some (.inl (0, N_142, .inl (fun _ => 0)))) := ⟨_, rfl⟩
  replace hw := hw a_135 e_136 h_137 eh_137
  rw [← eh_137]
  obtain ⟨fs_143, e_144, e_145, hw⟩ := hw
  obtain ⟨h_146, eh_146⟩ : ∃ z9 : AH, z9 = va_up h_137 b0 (some (.inr (0, fs_143.set 21 (va_rf (some a_135))))) := ⟨_, rfl⟩
  replace hw := hw h_146 eh_146
  refine v_putF in_X0 (ci := 0) rfl 21 (Nat.le_of_ble_eq_true rfl) tyX0 tyX0_ok nmX0 q340 rfl rfl rfl rfl rfl (v_rfa _ _).1 (v_rfa _ _).2 dX0_init_117 e_144 e_145 ?_
  rw [← eh_146]
  refine v_aload_n (q := 0) dX0_init_120 rfl rfl ?_
  refine v_iconst dX0_init_121 ic_4 ?_
  obtain ⟨N_154, e_150, e_153, e_151, e_152, hw⟩ := hw
  refine v_newqR q306 q307 e_150 e_153 (Nat.le_trans (Nat.mul_le_mul_right _ e_151.1) (by decide)) e_151.2 e_152 dX0_init_122 (fun a_147 e_148 => ?_)
  obtain ⟨h_149, eh_149⟩ : ∃ z9 : AH, z9 = va_up h_146 a_147 (some (.inl (8, N_154, .inr (.inr (.inr (.inr (fun _ => none))))))) := ⟨_, rfl⟩
  replace hw := hw a_147 e_148 h_149 eh_149
  rw [← eh_149]
  refine v_dup dX0_init_125 (v_rf1 _) ?_
  refine v_iconst dX0_init_126 ic_0 ?_
  obtain ⟨e_158, e_159, hw⟩ := hw
  refine v_new in_X5 (ci := 6) rfl tyX5 tyX5_ok q306 q308 q112 dfX5_ok e_158 e_159 dX0_init_127 (fun a_155 e_156 => ?_)
  obtain ⟨h_157, eh_157⟩ : ∃ z9 : AH, z9 = va_up h_149 a_155 (some (.inr (6, dfX5))) := ⟨_, rfl⟩
  replace hw := hw a_155 e_156 h_157 eh_157
  rw [← eh_157]
  refine v_dup dX0_init_130 (v_rf1 _) ?_
  refine v_callIN0 q309 q310 q112 q311 rfl n_X5_init ⟨Nat.le_of_ble_eq_true rfl, Nat.le_of_ble_eq_true rfl⟩ [] [va_rf (some a_155), .int (nI 0), va_rf (some a_147), va_rf (some a_147), va_rf (some b0)] (met_X5_init hw) rfl (by simp only [List.map_cons, List.map_nil, List.sum_cons, List.sum_nil, v_rf1, v_cI, v_cJ]; decide) rfl rfl dX0_init_131 rfl (v_kv (fun h1 hv => ?_))
  clear hw
  obtain ⟨e9, hw⟩ := hv
  refine v_heap e9 ?_
  clear e9
  obtain ⟨fs_167, e_168, N_162, g_163, e_164, hi_165, hw⟩ := hw
  obtain ⟨h_166, eh_166⟩ : ∃ z9 : AH, z9 = va_up h_157 a_147 (some (.inl (8, N_162, .inr (.inr (.inr (.inr (va_up g_163 ((nI 0)).toNatClampNeg (some a_155)))))))) := ⟨_, rfl⟩
  replace hw := hw h_166 eh_166
  refine v_aastR (ci := 6) rfl dX0_init_134 e_164 hi_165 e_168 ?_
  rw [← eh_166]
  refine v_dup dX0_init_135 (v_rf1 _) ?_
  refine v_iconst dX0_init_136 ic_1 ?_
  obtain ⟨e_174, e_175, hw⟩ := hw
  refine v_new in_X5 (ci := 6) rfl tyX5 tyX5_ok q306 q308 q112 dfX5_ok e_174 e_175 dX0_init_137 (fun a_171 e_172 => ?_)
  obtain ⟨h_173, eh_173⟩ : ∃ z9 : AH, z9 = va_up h_166 a_171 (some (.inr (6, dfX5))) := ⟨_, rfl⟩
  replace hw := hw a_171 e_172 h_173 eh_173
  rw [← eh_173]
  refine v_dup dX0_init_140 (v_rf1 _) ?_
  refine v_callIN0 q309 q310 q112 q311 rfl n_X5_init ⟨Nat.le_of_ble_eq_true rfl, Nat.le_of_ble_eq_true rfl⟩ [] [va_rf (some a_171), .int (nI 1), va_rf (some a_147), va_rf (some a_147), va_rf (some b0)] (met_X5_init hw) rfl (by simp only [List.map_cons, List.map_nil, List.sum_cons, List.sum_nil, v_rf1, v_cI, v_cJ]; decide) rfl rfl dX0_init_141 rfl (v_kv (fun h1 hv => ?_))
  clear hw
  obtain ⟨e9, hw⟩ := hv
  refine v_heap e9 ?_
  clear e9
  obtain ⟨fs_183, e_184, N_178, g_179, e_180, hi_181, hw⟩ := hw
  obtain ⟨h_182, eh_182⟩ : ∃ z9 : AH, z9 = va_up h_173 a_147 (some (.inl (8, N_178, .inr (.inr (.inr (.inr (va_up g_179 ((nI 1)).toNatClampNeg (some a_171)))))))) := ⟨_, rfl⟩
  replace hw := hw h_182 eh_182
  refine v_aastR (ci := 6) rfl dX0_init_144 e_180 hi_181 e_184 ?_
  rw [← eh_182]
  refine v_dup dX0_init_145 (v_rf1 _) ?_
  refine v_iconst dX0_init_146 ic_2 ?_
  obtain ⟨e_190, e_191, hw⟩ := hw
  refine v_new in_X5 (ci := 6) rfl tyX5 tyX5_ok q306 q308 q112 dfX5_ok e_190 e_191 dX0_init_147 (fun a_187 e_188 => ?_)
  obtain ⟨h_189, eh_189⟩ : ∃ z9 : AH, z9 = va_up h_182 a_187 (some (.inr (6, dfX5))) := ⟨_, rfl⟩
  replace hw := hw a_187 e_188 h_189 eh_189
  rw [← eh_189]
  refine v_dup dX0_init_150 (v_rf1 _) ?_
  refine v_callIN0 q309 q310 q112 q311 rfl n_X5_init ⟨Nat.le_of_ble_eq_true rfl, Nat.le_of_ble_eq_true rfl⟩ [] [va_rf (some a_187), .int (nI 2), va_rf (some a_147), va_rf (some a_147), va_rf (some b0)] (met_X5_init hw) rfl (by simp only [List.map_cons, List.map_nil, List.sum_cons, List.sum_nil, v_rf1, v_cI, v_cJ]; decide) rfl rfl dX0_init_151 rfl (v_kv (fun h1 hv => ?_))
  clear hw
  obtain ⟨e9, hw⟩ := hv
  refine v_heap e9 ?_
  clear e9
  obtain ⟨fs_199, e_200, N_194, g_195, e_196, hi_197, hw⟩ := hw
  obtain ⟨h_198, eh_198⟩ : ∃ z9 : AH, z9 = va_up h_189 a_147 (some (.inl (8, N_194, .inr (.inr (.inr (.inr (va_up g_195 ((nI 2)).toNatClampNeg (some a_187)))))))) := ⟨_, rfl⟩
  replace hw := hw h_198 eh_198
  refine v_aastR (ci := 6) rfl dX0_init_154 e_196 hi_197 e_200 ?_
  rw [← eh_198]
  refine v_dup dX0_init_155 (v_rf1 _) ?_
  refine v_iconst dX0_init_156 ic_3 ?_
  obtain ⟨e_206, e_207, hw⟩ := hw
  refine v_new in_X5 (ci := 6) rfl tyX5 tyX5_ok q306 q308 q112 dfX5_ok e_206 e_207 dX0_init_157 (fun a_203 e_204 => ?_)
  obtain ⟨h_205, eh_205⟩ : ∃ z9 : AH, z9 = va_up h_198 a_203 (some (.inr (6, dfX5))) := ⟨_, rfl⟩
  replace hw := hw a_203 e_204 h_205 eh_205
  rw [← eh_205]
  refine v_dup dX0_init_160 (v_rf1 _) ?_
  refine v_callIN0 q309 q310 q112 q311 rfl n_X5_init ⟨Nat.le_of_ble_eq_true rfl, Nat.le_of_ble_eq_true rfl⟩ [] [va_rf (some a_203), .int (nI 3), va_rf (some a_147), va_rf (some a_147), va_rf (some b0)] (met_X5_init hw) rfl (by simp only [List.map_cons, List.map_nil, List.sum_cons, List.sum_nil, v_rf1, v_cI, v_cJ]; decide) rfl rfl dX0_init_161 rfl (v_kv (fun h1 hv => ?_))
  clear hw
  obtain ⟨e9, hw⟩ := hv
  refine v_heap e9 ?_
  clear e9
  obtain ⟨fs_215, e_216, N_210, g_211, e_212, hi_213, hw⟩ := hw
  obtain ⟨h_214, eh_214⟩ : ∃ z9 : AH, z9 = va_up h_205 a_147 (some (.inl (8, N_210, .inr (.inr (.inr (.inr (va_up g_211 ((nI 3)).toNatClampNeg (some a_203)))))))) := ⟨_, rfl⟩
  replace hw := hw h_214 eh_214
  refine v_aastR (ci := 6) rfl dX0_init_164 e_212 hi_213 e_216 ?_
  rw [← eh_214]
  obtain ⟨fs_219, e_220, e_221, hw⟩ := hw
  obtain ⟨h_222, eh_222⟩ : ∃ z9 : AH, z9 = va_up h_214 b0 (some (.inr (0, fs_219.set 22 (va_rf (some a_147))))) := ⟨_, rfl⟩
  replace hw := hw h_222 eh_222
  refine v_putF in_X0 (ci := 0) rfl 22 (Nat.le_of_ble_eq_true rfl) tyX0 tyX0_ok nmX0 q341 rfl rfl rfl rfl rfl (v_rfa _ _).1 (v_rfa _ _).2 dX0_init_165 e_220 e_221 ?_
  rw [← eh_222]
  exact v_vret dX0_init_168 rfl ⟨rfl, hw⟩
theorem met_X0_init {post : (AH) → Prop}   {b0 : Nat} {h : AH}  (hw : w_X0_init post  b0 h) : Mt l E yX0_init (ws_ yX0_init cX0_init 1 none) r_X0_init [va_rf (some b0)] h (vpv (fun (h' : AH) => post h')) := v_entry (by decide +kernel) (Nat.le_of_ble_eq_true rfl) rfl (fun _ => e_X0_init hw)
/-! X0_in -/
abbrev r_X0_in : Room := { frames := 0, cells := 0, slots := 0, locals := 0 }
theorem n_X0_in : vdn yX0_in 3 := ⟨by decide +kernel, by decide +kernel, by decide +kernel⟩
def w_X0_in (post : (Int32) → Prop) (x0 : Int64) (x2 : Int64) (x4 : Int64) : Prop :=
 (((lg_cmp x0 x2) < 0 → (post (nI 0))) ∧ (¬ (lg_cmp x0 x2) < 0 → ((0 < (lg_cmp x0 x4) → (post (nI 0))) ∧ (¬ 0 < (lg_cmp x0 x4) → (post (nI 1))))))
theorem e_X0_in {post : (Int32) → Prop}   {x0 : Int64} {x2 : Int64} {x4 : Int64} {h : AH}  (hw : w_X0_in post  x0 x2 x4) : VV l E X cX0_in RX0 "in" 6 r_X0_in (some .boolean) (vpi (fun (r : Int32) (h' : AH) => h' = h ∧ post r)) h 0 0 0 [(0, .long x0), (2, .long x2), (4, .long x4)] [] := by
  refine v_lload_n (q := 0) dX0_in_0 rfl rfl ?_
  refine v_lload_n (q := 1) dX0_in_1 rfl rfl ?_
  refine v_lcmp dX0_in_2 ?_
  obtain ⟨hw_3, hw_4⟩ := hw
  refine v_if_lt (tgt := 17) dX0_in_3 (by decide) (fun c_1 => ?_) (fun c_2 => ?_)
  · have hw := hw_3 c_1
    refine v_iconst dX0_in_17 ic_0 ?_
    exact v_zret dX0_in_18 rfl rfl ⟨_, rfl, rfl, hw⟩
  · have hw := hw_4 c_2
    refine v_lload_n (q := 0) dX0_in_6 rfl rfl ?_
    refine v_lload (q := 2) dX0_in_7 rfl ?_
    refine v_lcmp dX0_in_9 ?_
    obtain ⟨hw_7, hw_8⟩ := hw
    refine v_if_gt (tgt := 17) dX0_in_10 (by decide) (fun c_5 => ?_) (fun c_6 => ?_)
    · have hw := hw_7 c_5
      refine v_iconst dX0_in_17 ic_0 ?_
      exact v_zret dX0_in_18 rfl rfl ⟨_, rfl, rfl, hw⟩
    · have hw := hw_8 c_6
      refine v_iconst dX0_in_13 ic_1 ?_
      refine v_goto (tgt := 18) dX0_in_14 (by decide) ?_
      exact v_zret dX0_in_18 rfl rfl ⟨_, rfl, rfl, hw⟩
theorem met_X0_in {post : (Int32) → Prop}   {x0 : Int64} {x2 : Int64} {x4 : Int64} {h : AH}  (hw : w_X0_in post  x0 x2 x4) : Mt l E yX0_in (ws_ yX0_in cX0_in 6 (some .boolean)) r_X0_in [.long x0, .long x2, .long x4] h (vpi (fun (r : Int32) (h' : AH) => h' = h ∧ post r)) := v_entry (by decide +kernel) (Nat.le_of_ble_eq_true rfl) rfl (fun _ => e_X0_in hw)
/-! X0_refuse -/
abbrev r_X0_refuse : Room := { frames := 0, cells := 0, slots := 0, locals := 0 }
theorem n_X0_refuse : vdn yX0_refuse 1 := ⟨by decide +kernel, by decide +kernel, by decide +kernel⟩
def w_X0_refuse (post : (Int32) → (AH) → Prop) (b0 : Nat) (x1 : Int32) (h : AH) : Prop :=
 (∃ (fs_1 : List Value) (r_4 : Option Nat), h b0 = some (.inr (0, fs_1)) ∧ fs_1[3]? = some (va_rf r_4) ∧ (∃ a_5 : Nat, r_4 = some a_5 ∧ (∃ (N_6 : Nat) (g_7 : Nat → Int32), h a_5 = some (.inl (0, N_6, .inl g_7)) ∧ vp_in (-x1) N_6 ∧ (∃ (N_10 : Nat) (g_11 : Nat → Int32), h a_5 = some (.inl (0, N_10, .inl g_11)) ∧ vp_in (-x1) N_10 ∧ ∀ h_14 : AH, h_14 = va_up h a_5 (some (.inl (0, N_10, .inl (upd g_11 ((-x1)).toNatClampNeg ((g_7 ((-x1)).toNatClampNeg) + (nI 1)))))) → (post x1 h_14)))))
theorem e_X0_refuse {post : (Int32) → (AH) → Prop}   {b0 : Nat} {x1 : Int32} {h : AH}  (hw : w_X0_refuse post  b0 x1 h) : VV l E X cX0_refuse RX0 "refuse" 2 r_X0_refuse (some .int) (vpi (fun (r : Int32) (h' : AH) => post r h')) h 0 0 0 [(0, va_rf (some b0)), (1, .int x1)] [] := by
  refine v_aload_n (q := 0) dX0_refuse_0 rfl rfl ?_
  obtain ⟨fs_1, r_4, e_2, e_3, hw⟩ := hw
  refine v_get in_X0 (ci := 0) rfl 3 (Nat.le_of_ble_eq_true rfl) q321 rfl dX0_refuse_1 e_2 e_3 ?_
  refine v_iload_n (q := 1) dX0_refuse_4 rfl rfl ?_
  refine v_ineg dX0_refuse_5 ?_
  refine v_dup2 dX0_refuse_6 rfl (v_rf1 _) ?_
  obtain ⟨a_5, ea_5, hw⟩ := hw
  subst ea_5
  obtain ⟨N_6, g_7, e_8, hi_9, hw⟩ := hw
  refine v_iald dX0_refuse_7 e_8 hi_9 ?_
  refine v_iconst dX0_refuse_8 ic_1 ?_
  refine v_iadd dX0_refuse_9 ?_
  obtain ⟨N_10, g_11, e_12, hi_13, hw⟩ := hw
  obtain ⟨h_14, eh_14⟩ : ∃ z9 : AH, z9 = va_up h a_5 (some (.inl (0, N_10, .inl (upd g_11 ((-x1)).toNatClampNeg ((g_7 ((-x1)).toNatClampNeg) + (nI 1)))))) := ⟨_, rfl⟩
  replace hw := hw h_14 eh_14
  refine v_iast dX0_refuse_10 e_12 hi_13 ?_
  rw [← eh_14]
  refine v_iload_n (q := 1) dX0_refuse_11 rfl rfl ?_
  exact v_iret dX0_refuse_12 rfl ⟨_, rfl, hw⟩
theorem met_X0_refuse {post : (Int32) → (AH) → Prop}   {b0 : Nat} {x1 : Int32} {h : AH}  (hw : w_X0_refuse post  b0 x1 h) : Mt l E yX0_refuse (ws_ yX0_refuse cX0_refuse 2 (some .int)) r_X0_refuse [va_rf (some b0), .int x1] h (vpi (fun (r : Int32) (h' : AH) => post r h')) := v_entry (by decide +kernel) (Nat.le_of_ble_eq_true rfl) rfl (fun _ => e_X0_refuse hw)
/-! X0_isTale -/
abbrev r_X0_isTale : Room := { frames := 1, cells := 0, slots := 0, locals := 25 }
theorem n_X0_isTale : vdn yX0_isTale 1 := ⟨by decide +kernel, by decide +kernel, by decide +kernel⟩
def w_X0_isTale (post : (Int32) → Prop) (x0 : Int32) : Prop :=
 (w_X0_in (fun (z_1 : Int32) => ((z_1 = nI 0 ∨ z_1 = nI 1) ∧ post z_1)) ((x0).toInt64) (lN 0) (lN 9))
theorem e_X0_isTale {post : (Int32) → Prop}   {x0 : Int32} {h : AH}  (hw : w_X0_isTale post  x0) : VV l E X cX0_isTale RX0 "isTale" 1 r_X0_isTale (some .boolean) (vpi (fun (r : Int32) (h' : AH) => h' = h ∧ post r)) h 0 0 0 [(0, .int x0)] [] := by
  refine v_iload_n (q := 0) dX0_isTale_0 rfl rfl ?_
  refine v_i2l dX0_isTale_1 ?_
  refine v_lconst (v := lN 0) dX0_isTale_2 rfl ?_
  refine v_ldc2 (v := (lN 9)) dX0_isTale_3 q403 ?_
  refine v_callS q393 q394 q104 q395 n_X0_in ⟨Nat.le_of_ble_eq_true rfl, Nat.le_of_ble_eq_true rfl⟩ [.long ((x0).toInt64), .long (lN 0), .long (lN 9)] [] (met_X0_in hw) rfl (Nat.zero_le _) ⟨Nat.le_refl _, Nat.le_refl _⟩ dX0_isTale_6 rfl (v_ki (fun z_1 h1 hv => ?_))
  clear hw
  obtain ⟨e9, hw⟩ := hv
  refine v_heap e9 ?_
  clear e9
  obtain ⟨hn_2, hw⟩ := hw
  exact v_zret dX0_isTale_9 rfl (v_z1 hn_2).1 ⟨_, rfl, rfl, hw⟩
theorem met_X0_isTale {post : (Int32) → Prop}   {x0 : Int32} {h : AH}  (hw : w_X0_isTale post  x0) : Mt l E yX0_isTale (ws_ yX0_isTale cX0_isTale 1 (some .boolean)) r_X0_isTale [.int x0] h (vpi (fun (r : Int32) (h' : AH) => h' = h ∧ post r)) := v_entry (by decide +kernel) (Nat.le_of_ble_eq_true rfl) rfl (fun _ => e_X0_isTale hw)
/-! X0_isGlen -/
abbrev r_X0_isGlen : Room := { frames := 1, cells := 0, slots := 0, locals := 25 }
theorem n_X0_isGlen : vdn yX0_isGlen 1 := ⟨by decide +kernel, by decide +kernel, by decide +kernel⟩
def w_X0_isGlen (post : (Int32) → Prop) (x0 : Int32) : Prop :=
 (w_X0_in (fun (z_1 : Int32) => ((z_1 = nI 0 ∨ z_1 = nI 1) ∧ post z_1)) ((x0).toInt64) (lN 0) (lN 15))
theorem e_X0_isGlen {post : (Int32) → Prop}   {x0 : Int32} {h : AH}  (hw : w_X0_isGlen post  x0) : VV l E X cX0_isGlen RX0 "isGlen" 1 r_X0_isGlen (some .boolean) (vpi (fun (r : Int32) (h' : AH) => h' = h ∧ post r)) h 0 0 0 [(0, .int x0)] [] := by
  refine v_iload_n (q := 0) dX0_isGlen_0 rfl rfl ?_
  refine v_i2l dX0_isGlen_1 ?_
  refine v_lconst (v := lN 0) dX0_isGlen_2 rfl ?_
  refine v_ldc2 (v := (lN 15)) dX0_isGlen_3 q407 ?_
  refine v_callS q393 q394 q104 q395 n_X0_in ⟨Nat.le_of_ble_eq_true rfl, Nat.le_of_ble_eq_true rfl⟩ [.long ((x0).toInt64), .long (lN 0), .long (lN 15)] [] (met_X0_in hw) rfl (Nat.zero_le _) ⟨Nat.le_refl _, Nat.le_refl _⟩ dX0_isGlen_6 rfl (v_ki (fun z_1 h1 hv => ?_))
  clear hw
  obtain ⟨e9, hw⟩ := hv
  refine v_heap e9 ?_
  clear e9
  obtain ⟨hn_2, hw⟩ := hw
  exact v_zret dX0_isGlen_9 rfl (v_z1 hn_2).1 ⟨_, rfl, rfl, hw⟩
theorem met_X0_isGlen {post : (Int32) → Prop}   {x0 : Int32} {h : AH}  (hw : w_X0_isGlen post  x0) : Mt l E yX0_isGlen (ws_ yX0_isGlen cX0_isGlen 1 (some .boolean)) r_X0_isGlen [.int x0] h (vpi (fun (r : Int32) (h' : AH) => h' = h ∧ post r)) := v_entry (by decide +kernel) (Nat.le_of_ble_eq_true rfl) rfl (fun _ => e_X0_isGlen hw)
/-! X0_isDay -/
abbrev r_X0_isDay : Room := { frames := 1, cells := 0, slots := 0, locals := 25 }
theorem n_X0_isDay : vdn yX0_isDay 1 := ⟨by decide +kernel, by decide +kernel, by decide +kernel⟩
def w_X0_isDay (post : (Int32) → Prop) (x0 : Int32) : Prop :=
 (w_X0_in (fun (z_1 : Int32) => ((z_1 = nI 0 ∨ z_1 = nI 1) ∧ post z_1)) ((x0).toInt64) (lN 0) (lN 9999))
theorem e_X0_isDay {post : (Int32) → Prop}   {x0 : Int32} {h : AH}  (hw : w_X0_isDay post  x0) : VV l E X cX0_isDay RX0 "isDay" 1 r_X0_isDay (some .boolean) (vpi (fun (r : Int32) (h' : AH) => h' = h ∧ post r)) h 0 0 0 [(0, .int x0)] [] := by
  refine v_iload_n (q := 0) dX0_isDay_0 rfl rfl ?_
  refine v_i2l dX0_isDay_1 ?_
  refine v_lconst (v := lN 0) dX0_isDay_2 rfl ?_
  refine v_ldc2 (v := (lN 9999)) dX0_isDay_3 q411 ?_
  refine v_callS q393 q394 q104 q395 n_X0_in ⟨Nat.le_of_ble_eq_true rfl, Nat.le_of_ble_eq_true rfl⟩ [.long ((x0).toInt64), .long (lN 0), .long (lN 9999)] [] (met_X0_in hw) rfl (Nat.zero_le _) ⟨Nat.le_refl _, Nat.le_refl _⟩ dX0_isDay_6 rfl (v_ki (fun z_1 h1 hv => ?_))
  clear hw
  obtain ⟨e9, hw⟩ := hv
  refine v_heap e9 ?_
  clear e9
  obtain ⟨hn_2, hw⟩ := hw
  exact v_zret dX0_isDay_9 rfl (v_z1 hn_2).1 ⟨_, rfl, rfl, hw⟩
theorem met_X0_isDay {post : (Int32) → Prop}   {x0 : Int32} {h : AH}  (hw : w_X0_isDay post  x0) : Mt l E yX0_isDay (ws_ yX0_isDay cX0_isDay 1 (some .boolean)) r_X0_isDay [.int x0] h (vpi (fun (r : Int32) (h' : AH) => h' = h ∧ post r)) := v_entry (by decide +kernel) (Nat.le_of_ble_eq_true rfl) rfl (fun _ => e_X0_isDay hw)
/-! X7_init -/
abbrev r_X7_init : Room := { frames := 4, cells := 2, slots := 5, locals := 81 }
theorem n_X7_init : vdn yX7_init 4 := ⟨by decide +kernel, by decide +kernel, by decide +kernel⟩
def w_X7_init (post : (AH) → Prop) (b0 : Nat) (x1 : Int32) (x2 : Int32) (x3 : Int32) (x4 : Int32) (h : AH) : Prop :=
 (0 + 1 ≤ 2 ∧ 0 + 3 ≤ 5 ∧ ∀ a_1 : Nat, h a_1 = none → ∀ h_3 : AH, h_3 = va_up h a_1 (some (.inr (2, dfJ2))) → ((0 + 1) + 1 ≤ 2 ∧ (0 + 3) + 2 ≤ 5 ∧ (w_J2_init (fun (h_8 : AH) => (∃ fs_9 : List Value, h_8 b0 = some (.inr (8, fs_9)) ∧ 4 < fs_9.length ∧ ∀ h_12 : AH, h_12 = va_up h_8 b0 (some (.inr (8, fs_9.set 4 (va_rf (some a_1))))) → (∃ fs_13 : List Value, h_12 b0 = some (.inr (8, fs_13)) ∧ 0 < fs_13.length ∧ ∀ h_16 : AH, h_16 = va_up h_12 b0 (some (.inr (8, fs_13.set 0 (.int x1)))) → (∃ fs_17 : List Value, h_16 b0 = some (.inr (8, fs_17)) ∧ 1 < fs_17.length ∧ ∀ h_20 : AH, h_20 = va_up h_16 b0 (some (.inr (8, fs_17.set 1 (.int x2)))) → (∃ fs_21 : List Value, h_20 b0 = some (.inr (8, fs_21)) ∧ 2 < fs_21.length ∧ ∀ h_24 : AH, h_24 = va_up h_20 b0 (some (.inr (8, fs_21.set 2 (.int x3)))) → (∃ fs_25 : List Value, h_24 b0 = some (.inr (8, fs_25)) ∧ 3 < fs_25.length ∧ ∀ h_28 : AH, h_28 = va_up h_24 b0 (some (.inr (8, fs_25.set 3 (.int x4)))) → (post h_28))))))) a_1 (nI 2) h_3)))
theorem e_X7_init {post : (AH) → Prop}   {b0 : Nat} {x1 : Int32} {x2 : Int32} {x3 : Int32} {x4 : Int32} {h : AH}  (hw : w_X7_init post  b0 x1 x2 x3 x4 h) : VV l E X cX7_init RX7 "<init>" 5 r_X7_init none (vpv (fun (h' : AH) => post h')) h 0 0 0 [(0, va_rf (some b0)), (1, .int x1), (2, .int x2), (3, .int x3), (4, .int x4)] [] := by
  refine v_aload_n (q := 0) dX7_init_0 rfl rfl ?_
  refine v_objInit q422 q154 q155 (Nat.zero_le _) (Nat.le_of_ble_eq_true rfl) (Nat.le_of_ble_eq_true rfl) dX7_init_1 ?_
  refine v_aload_n (q := 0) dX7_init_4 rfl rfl ?_
  obtain ⟨e_4, e_5, hw⟩ := hw
  refine v_new in_J2 (ci := 2) rfl tyJ2 tyJ2_ok q423 q163 q108 dfJ2_ok e_4 e_5 dX7_init_5 (fun a_1 e_2 => ?_)
  obtain ⟨h_3, eh_3⟩ : ∃ z9 : AH, z9 = va_up h a_1 (some (.inr (2, dfJ2))) := ⟨_, rfl⟩
  replace hw := hw a_1 e_2 h_3 eh_3
  rw [← eh_3]
  refine v_dup dX7_init_8 (v_rf1 _) ?_
  refine v_iconst dX7_init_9 ic_2 ?_
  obtain ⟨e_29, e_30, hw⟩ := hw
  refine v_callI q424 q165 q108 q166 rfl n_J2_init ⟨Nat.le_of_ble_eq_true rfl, Nat.le_of_ble_eq_true rfl⟩ [.int (nI 2)] [va_rf (some a_1), va_rf (some b0)] (met_J2_init hw) rfl (by simp only [List.map_cons, List.map_nil, List.sum_cons, List.sum_nil, v_rf1, v_cI, v_cJ]; decide) ⟨e_29, e_30⟩ dX7_init_10 rfl (v_kv (fun h_8 hv => ?_))
  clear hw
  have hw := hv
  clear hv
  obtain ⟨fs_9, e_10, e_11, hw⟩ := hw
  obtain ⟨h_12, eh_12⟩ : ∃ z9 : AH, z9 = va_up h_8 b0 (some (.inr (8, fs_9.set 4 (va_rf (some a_1))))) := ⟨_, rfl⟩
  replace hw := hw h_12 eh_12
  refine v_putF in_X7 (ci := 8) rfl 4 (Nat.le_of_ble_eq_true rfl) tyX7 tyX7_ok nmX7 q432 rfl rfl rfl rfl rfl (v_rfn _ _).1 (v_rfn _ _).2 dX7_init_13 e_10 e_11 ?_
  rw [← eh_12]
  refine v_aload_n (q := 0) dX7_init_16 rfl rfl ?_
  refine v_iload_n (q := 1) dX7_init_17 rfl rfl ?_
  obtain ⟨fs_13, e_14, e_15, hw⟩ := hw
  obtain ⟨h_16, eh_16⟩ : ∃ z9 : AH, z9 = va_up h_12 b0 (some (.inr (8, fs_13.set 0 (.int x1)))) := ⟨_, rfl⟩
  replace hw := hw h_16 eh_16
  refine v_putF in_X7 (ci := 8) rfl 0 (Nat.le_of_ble_eq_true rfl) tyX7 tyX7_ok nmX7 q425 rfl rfl rfl rfl rfl rfl rfl dX7_init_18 e_14 e_15 ?_
  rw [← eh_16]
  refine v_aload_n (q := 0) dX7_init_21 rfl rfl ?_
  refine v_iload_n (q := 2) dX7_init_22 rfl rfl ?_
  obtain ⟨fs_17, e_18, e_19, hw⟩ := hw
  obtain ⟨h_20, eh_20⟩ : ∃ z9 : AH, z9 = va_up h_16 b0 (some (.inr (8, fs_17.set 1 (.int x2)))) := ⟨_, rfl⟩
  replace hw := hw h_20 eh_20
  refine v_putF in_X7 (ci := 8) rfl 1 (Nat.le_of_ble_eq_true rfl) tyX7 tyX7_ok nmX7 q427 rfl rfl rfl rfl rfl rfl rfl dX7_init_23 e_18 e_19 ?_
  rw [← eh_20]
  refine v_aload_n (q := 0) dX7_init_26 rfl rfl ?_
  refine v_iload_n (q := 3) dX7_init_27 rfl rfl ?_
  obtain ⟨fs_21, e_22, e_23, hw⟩ := hw
  obtain ⟨h_24, eh_24⟩ : ∃ z9 : AH, z9 = va_up h_20 b0 (some (.inr (8, fs_21.set 2 (.int x3)))) := ⟨_, rfl⟩
  replace hw := hw h_24 eh_24
  refine v_putF in_X7 (ci := 8) rfl 2 (Nat.le_of_ble_eq_true rfl) tyX7 tyX7_ok nmX7 q429 rfl rfl rfl rfl rfl rfl rfl dX7_init_28 e_22 e_23 ?_
  rw [← eh_24]
  refine v_aload_n (q := 0) dX7_init_31 rfl rfl ?_
  refine v_iload (q := 4) dX7_init_32 rfl ?_
  obtain ⟨fs_25, e_26, e_27, hw⟩ := hw
  obtain ⟨h_28, eh_28⟩ : ∃ z9 : AH, z9 = va_up h_24 b0 (some (.inr (8, fs_25.set 3 (.int x4)))) := ⟨_, rfl⟩
  replace hw := hw h_28 eh_28
  refine v_putF in_X7 (ci := 8) rfl 3 (Nat.le_of_ble_eq_true rfl) tyX7 tyX7_ok nmX7 q430 rfl rfl rfl rfl rfl rfl rfl dX7_init_34 e_26 e_27 ?_
  rw [← eh_28]
  exact v_vret dX7_init_37 rfl ⟨rfl, hw⟩
theorem met_X7_init {post : (AH) → Prop}   {b0 : Nat} {x1 : Int32} {x2 : Int32} {x3 : Int32} {x4 : Int32} {h : AH}  (hw : w_X7_init post  b0 x1 x2 x3 x4 h) : Mt l E yX7_init (ws_ yX7_init cX7_init 5 none) r_X7_init [va_rf (some b0), .int x1, .int x2, .int x3, .int x4] h (vpv (fun (h' : AH) => post h')) := v_entry (by decide +kernel) (Nat.le_of_ble_eq_true rfl) rfl (fun _ => e_X7_init hw)
/-! X0_open -/
abbrev r_X0_open : Room := { frames := 8, cells := 4, slots := 80, locals := 228 }
theorem n_X0_open : vdn yX0_open 4 := ⟨by decide +kernel, by decide +kernel, by decide +kernel⟩
def w_X0_open_58 (post : (Int32) → (AH) → Prop) (b0 : Nat) (x1 : Int32) (x2 : Int32) (x3 : Int32) (x4 : Int32) (h : AH) (k : Nat) (n : Nat) : Prop :=
 (∃ fs_3 : List Value, h b0 = some (.inr (0, fs_3)) ∧ (w_X0_refuse (fun (z_1 : Int32) (h_2 : AH) => (post z_1 h_2)) b0 (-3) h))
def w_X0_open_146 (post : (Int32) → (AH) → Prop) (b0 : Nat) (x1 : Int32) (x2 : Int32) (x3 : Int32) (x4 : Int32) (x5 : Option Nat) (s0 : Int32) (s1 : Int32) (s4 : Option Nat) (s5 : Option Nat) (s6 : Option Nat) (h : AH) (k : Nat) (n : Nat) : Prop :=
 (∃ a_5 : Nat, s4 = some a_5 ∧ (k + 2 ≤ 4 ∧ n + 5 ≤ 80 ∧ (w_X7_init (fun (h_6 : AH) => (∃ a_7 : Nat, s6 = some a_7 ∧ (∃ fs_16 : List Value, h_6 a_7 = some (.inr (2, fs_16)) ∧ ((k + 2) + 1 ≤ 4 ∧ (n + 5) + 63 ≤ 80 ∧ (w_J2_add (fun (z_8 : Int32) (h_9 : AH) => (∃ a_10 : Nat, x5 = some a_10 ∧ (∃ fs_12 : List Value, h_9 a_10 = some (.inr (2, fs_12)) ∧ (w_J2_size (fun (z_11 : Int32) => (post (z_11 - (nI 1)) h_9)) a_10 h_9)))) a_7 s5 h_6))))) a_5 x2 x2 s1 s0 h)))
def w_X0_open_136 (post : (Int32) → (AH) → Prop) (b0 : Nat) (x1 : Int32) (x2 : Int32) (x3 : Int32) (x4 : Int32) (x5 : Option Nat) (s0 : Int32) (s3 : Option Nat) (s4 : Option Nat) (s5 : Option Nat) (h : AH) (k : Nat) (n : Nat) : Prop :=
 ((¬ x1 = 0 → (w_X0_open_146 post b0 x1 x2 x3 x4 x5 (nI 0) s0 s3 s4 s5 h k n)) ∧ (x1 = 0 → (w_X0_open_146 post b0 x1 x2 x3 x4 x5 x4 s0 s3 s4 s5 h k n)))
def w_X0_open_104 (post : (Int32) → (AH) → Prop) (b0 : Nat) (x1 : Int32) (x2 : Int32) (x3 : Int32) (x4 : Int32) (x5 : Option Nat) (s0 : Int32) (s1 : Int32) (h : AH) (k : Nat) (n : Nat) : Prop :=
 ((¬ s1 = s0 → (∃ fs_28 : List Value, h b0 = some (.inr (0, fs_28)) ∧ 16 < fs_28.length ∧ ∀ h_31 : AH, h_31 = va_up h b0 (some (.inr (0, fs_28.set 16 (.int (nI 0))))) → (k + 1 ≤ 4 ∧ n + 5 ≤ 80 ∧ ∀ a_32 : Nat, h_31 a_32 = none → ∀ h_34 : AH, h_34 = va_up h_31 a_32 (some (.inr (8, dfX7))) → ((¬ x1 = 0 → (w_X0_open_136 post b0 x1 x2 x3 x4 x5 (nI 0) (some a_32) (some a_32) x5 h_34 (k + 1) (n + 5))) ∧ (x1 = 0 → (w_X0_open_136 post b0 x1 x2 x3 x4 x5 x3 (some a_32) (some a_32) x5 h_34 (k + 1) (n + 5))))))) ∧ (s1 = s0 → (∃ fs_45 : List Value, h b0 = some (.inr (0, fs_45)) ∧ (w_X0_refuse (fun (z_43 : Int32) (h_44 : AH) => (post z_43 h_44)) b0 (-4) h))))
def w_X0_open_86 (post : (Int32) → (AH) → Prop) (b0 : Nat) (x1 : Int32) (x2 : Int32) (x3 : Int32) (x4 : Int32) (s0 : Option Nat) (h : AH) (k : Nat) (n : Nat) : Prop :=
 (∃ a_47 : Nat, s0 = some a_47 ∧ (∃ fs_53 : List Value, h a_47 = some (.inr (2, fs_53)) ∧ (w_J2_size (fun (z_48 : Int32) => ((¬ x1 = 0 → (w_X0_open_104 post b0 x1 x2 x3 x4 (some a_47) (nI 12) z_48 h k n)) ∧ (x1 = 0 → (w_X0_open_104 post b0 x1 x2 x3 x4 (some a_47) (nI 40) z_48 h k n)))) a_47 h)))
def w_X0_open_65 (post : (Int32) → (AH) → Prop) (b0 : Nat) (x1 : Int32) (x2 : Int32) (x3 : Int32) (x4 : Int32) (h : AH) (k : Nat) (n : Nat) : Prop :=
 ((¬ x1 = 0 → (∃ (fs_59 : List Value) (r_62 : Option Nat), h b0 = some (.inr (0, fs_59)) ∧ fs_59[1]? = some (va_rf r_62) ∧ (∃ a_63 : Nat, r_62 = some a_63 ∧ (∃ (fs_64 : List Value) (r_67 : Option Nat), h a_63 = some (.inr (1, fs_64)) ∧ fs_64[4]? = some (va_rf r_67) ∧ (w_X0_open_86 post b0 x1 x2 x3 x4 r_67 h k n))))) ∧ (x1 = 0 → (∃ (fs_68 : List Value) (r_71 : Option Nat), h b0 = some (.inr (0, fs_68)) ∧ fs_68[1]? = some (va_rf r_71) ∧ (∃ a_72 : Nat, r_71 = some a_72 ∧ (∃ (fs_73 : List Value) (r_76 : Option Nat), h a_72 = some (.inr (1, fs_73)) ∧ fs_73[3]? = some (va_rf r_76) ∧ (w_X0_open_86 post b0 x1 x2 x3 x4 r_76 h k n))))))
def w_X0_open (post : (Int32) → (AH) → Prop) (b0 : Nat) (x1 : Int32) (x2 : Int32) (x3 : Int32) (x4 : Int32) (h : AH) : Prop :=
 (w_X0_in (fun (z_77 : Int32) => ((¬ z_77 = 0 → ((¬ x1 = 0 → (w_X0_in (fun (z_86 : Int32) => ((¬ z_86 = 0 → (w_X0_open_65 post b0 x1 x2 x3 x4 h 0 0)) ∧ (z_86 = 0 → (w_X0_open_58 post b0 x1 x2 x3 x4 h 0 0)))) ((x2).toInt64) (lN 0) (lN 5))) ∧ (x1 = 0 → (w_X0_isTale (fun (z_91 : Int32) => ((z_91 = 0 → (w_X0_open_58 post b0 x1 x2 x3 x4 h 0 0)) ∧ (¬ z_91 = 0 → (w_X0_isGlen (fun (z_96 : Int32) => ((z_96 = 0 → (w_X0_open_58 post b0 x1 x2 x3 x4 h 0 0)) ∧ (¬ z_96 = 0 → (w_X0_isDay (fun (z_101 : Int32) => ((¬ z_101 = 0 → (w_X0_open_65 post b0 x1 x2 x3 x4 h 0 0)) ∧ (z_101 = 0 → (w_X0_open_58 post b0 x1 x2 x3 x4 h 0 0)))) x4)))) x3)))) x2)))) ∧ (z_77 = 0 → (∃ fs_108 : List Value, h b0 = some (.inr (0, fs_108)) ∧ (w_X0_refuse (fun (z_106 : Int32) (h_107 : AH) => (post z_106 h_107)) b0 (-2) h))))) ((x1).toInt64) (lN 0) (lN 1))
theorem b_X0_open_58 {post : (Int32) → (AH) → Prop}   {b0 : Nat} {x1 : Int32} {x2 : Int32} {x3 : Int32} {x4 : Int32}    (h : AH) (k : Nat) (n : Nat) (hw : w_X0_open_58 post b0 x1 x2 x3 x4 h k n) : VV l E X cX0_open RX0 "open" 6 r_X0_open (some .int) (vpi (fun (r : Int32) (h' : AH) => post r h')) h k n 58 [(0, va_rf (some b0)), (1, .int x1), (2, .int x2), (3, .int x3), (4, .int x4)] [] := by
  refine v_aload_n (q := 0) dX0_open_58 rfl rfl ?_
  refine v_bipush dX0_open_59 bp_m3 ?_
  obtain ⟨fs_3, e_4, hw⟩ := hw
  refine v_callV0 q396 q398 qs0 q104 q399 (ci := 0) rfl e_4 n_X0_refuse ⟨Nat.le_of_ble_eq_true rfl, Nat.le_of_ble_eq_true rfl⟩ [.int (-3)] [] (met_X0_refuse hw) rfl (Nat.zero_le _) rfl rfl dX0_open_61 rfl (v_ki (fun z_1 h_2 hv => ?_))
  clear hw
  have hw := hv
  clear hv
  exact v_iret dX0_open_64 rfl ⟨_, rfl, hw⟩
theorem b_X0_open_146 {post : (Int32) → (AH) → Prop}   {b0 : Nat} {x1 : Int32} {x2 : Int32} {x3 : Int32} {x4 : Int32}    (x5 : Option Nat) (s0 : Int32) (s1 : Int32) (s4 : Option Nat) (s5 : Option Nat) (s6 : Option Nat) (h : AH) (k : Nat) (n : Nat) (hw : w_X0_open_146 post b0 x1 x2 x3 x4 x5 s0 s1 s4 s5 s6 h k n) : VV l E X cX0_open RX0 "open" 6 r_X0_open (some .int) (vpi (fun (r : Int32) (h' : AH) => post r h')) h k n 146 [(0, va_rf (some b0)), (1, .int x1), (2, .int x2), (3, .int x3), (4, .int x4), (5, va_rf x5)] [.int s0, .int s1, .int x2, .int x2, va_rf s4, va_rf s5, va_rf s6] := by
  obtain ⟨a_5, ea_5, hw⟩ := hw
  subst ea_5
  obtain ⟨e_18, e_19, hw⟩ := hw
  refine v_callI q419 q420 q114 q421 rfl n_X7_init ⟨Nat.le_of_ble_eq_true rfl, Nat.le_of_ble_eq_true rfl⟩ [.int x2, .int x2, .int s1, .int s0] [va_rf s5, va_rf s6] (met_X7_init hw) rfl (by simp only [List.map_cons, List.map_nil, List.sum_cons, List.sum_nil, v_rf1, v_cI, v_cJ]; decide) ⟨e_18, e_19⟩ dX0_open_146 rfl (v_kv (fun h_6 hv => ?_))
  clear hw
  have hw := hv
  clear hv
  obtain ⟨a_7, ea_7, hw⟩ := hw
  subst ea_7
  obtain ⟨fs_16, e_17, hw⟩ := hw
  obtain ⟨e_14, e_15, hw⟩ := hw
  refine v_callV q445 q446 q447 q108 q448 (ci := 2) rfl e_17 n_J2_add ⟨Nat.le_of_ble_eq_true rfl, Nat.le_of_ble_eq_true rfl⟩ [va_rf s5] [] (met_J2_add hw) rfl (Nat.zero_le _) ⟨e_14, e_15⟩ dX0_open_149 rfl (v_ki (fun z_8 h_9 hv => ?_))
  clear hw
  have hw := hv
  clear hv
  refine v_pop dX0_open_152 rfl ?_
  refine v_aload (q := 5) dX0_open_153 rfl ?_
  obtain ⟨a_10, ea_10, hw⟩ := hw
  subst ea_10
  obtain ⟨fs_12, e_13, hw⟩ := hw
  refine v_callV0 q413 q414 q415 q108 q416 (ci := 2) rfl e_13 n_J2_size ⟨Nat.le_of_ble_eq_true rfl, Nat.le_of_ble_eq_true rfl⟩ [] [] (met_J2_size hw) rfl (Nat.zero_le _) rfl rfl dX0_open_155 rfl (v_ki (fun z_11 h1 hv => ?_))
  clear hw
  obtain ⟨e9, hw⟩ := hv
  refine v_heap e9 ?_
  clear e9
  refine v_iconst dX0_open_158 ic_1 ?_
  refine v_isub dX0_open_159 ?_
  exact v_iret dX0_open_160 rfl ⟨_, rfl, hw⟩
theorem b_X0_open_136 {post : (Int32) → (AH) → Prop}   {b0 : Nat} {x1 : Int32} {x2 : Int32} {x3 : Int32} {x4 : Int32}    (x5 : Option Nat) (s0 : Int32) (s3 : Option Nat) (s4 : Option Nat) (s5 : Option Nat) (h : AH) (k : Nat) (n : Nat) (hw : w_X0_open_136 post b0 x1 x2 x3 x4 x5 s0 s3 s4 s5 h k n) : VV l E X cX0_open RX0 "open" 6 r_X0_open (some .int) (vpi (fun (r : Int32) (h' : AH) => post r h')) h k n 136 [(0, va_rf (some b0)), (1, .int x1), (2, .int x2), (3, .int x3), (4, .int x4), (5, va_rf x5)] [.int s0, .int x2, .int x2, va_rf s3, va_rf s4, va_rf s5] := by
  refine v_iload_n (q := 1) dX0_open_136 rfl rfl ?_
  obtain ⟨hw_22, hw_23⟩ := hw
  refine v_if_ne (tgt := 145) dX0_open_137 (by decide) (fun c_20 => ?_) (fun c_21 => ?_)
  · have hw := hw_22 c_20
    refine v_iconst dX0_open_145 ic_0 ?_
    refine v_sub [0, 1, 2, 3, 4, 5] rfl ?_
    exact b_X0_open_146 x5 (nI 0) s0 s3 s4 s5 h k n hw
  · have hw := hw_23 c_21
    refine v_iload (q := 4) dX0_open_140 rfl ?_
    refine v_goto (tgt := 146) dX0_open_142 (by decide) ?_
    refine v_sub [0, 1, 2, 3, 4, 5] rfl ?_
    exact b_X0_open_146 x5 x4 s0 s3 s4 s5 h k n hw
theorem b_X0_open_104 {post : (Int32) → (AH) → Prop}   {b0 : Nat} {x1 : Int32} {x2 : Int32} {x3 : Int32} {x4 : Int32}    (x5 : Option Nat) (s0 : Int32) (s1 : Int32) (h : AH) (k : Nat) (n : Nat) (hw : w_X0_open_104 post b0 x1 x2 x3 x4 x5 s0 s1 h k n) : VV l E X cX0_open RX0 "open" 6 r_X0_open (some .int) (vpi (fun (r : Int32) (h' : AH) => post r h')) h k n 104 [(0, va_rf (some b0)), (1, .int x1), (2, .int x2), (3, .int x3), (4, .int x4), (5, va_rf x5)] [.int s0, .int s1] := by
  obtain ⟨hw_26, hw_27⟩ := hw
  refine v_icmp_ne (tgt := 114) dX0_open_104 (by decide) (fun c_24 => ?_) (fun c_25 => ?_)
  · have hw := hw_26 c_24
    refine v_aload_n (q := 0) dX0_open_114 rfl rfl ?_
    refine v_iconst dX0_open_115 ic_0 ?_
    obtain ⟨fs_28, e_29, e_30, hw⟩ := hw
    obtain ⟨h_31, eh_31⟩ : ∃ z9 : AH, z9 = va_up h b0 (some (.inr (0, fs_28.set 16 (.int (nI 0))))) := ⟨_, rfl⟩
    replace hw := hw h_31 eh_31
    refine v_put in_X0 (ci := 0) rfl 16 (Nat.le_of_ble_eq_true rfl) tyX0 tyX0_ok nmX0 q335 rfl rfl rfl rfl rfl dX0_open_116 e_29 e_30 ?_
    rw [← eh_31]
    refine v_aload (q := 5) dX0_open_119 rfl ?_
    obtain ⟨e_35, e_36, hw⟩ := hw
    refine v_new in_X7 (ci := 8) rfl tyX7 tyX7_ok q417 q418 q114 dfX7_ok e_35 e_36 dX0_open_121 (fun a_32 e_33 => ?_)
    obtain ⟨h_34, eh_34⟩ : ∃ z9 : AH, z9 = va_up h_31 a_32 (some (.inr (8, dfX7))) := ⟨_, rfl⟩
    replace hw := hw a_32 e_33 h_34 eh_34
    rw [← eh_34]
    refine v_dup dX0_open_124 (v_rf1 _) ?_
    refine v_iload_n (q := 2) dX0_open_125 rfl rfl ?_
    refine v_iload_n (q := 2) dX0_open_126 rfl rfl ?_
    refine v_iload_n (q := 1) dX0_open_127 rfl rfl ?_
    obtain ⟨hw_41, hw_42⟩ := hw
    refine v_if_ne (tgt := 135) dX0_open_128 (by decide) (fun c_39 => ?_) (fun c_40 => ?_)
    · have hw := hw_41 c_39
      refine v_iconst dX0_open_135 ic_0 ?_
      refine v_sub [0, 1, 2, 3, 4, 5] rfl ?_
      exact b_X0_open_136 x5 (nI 0) (some a_32) (some a_32) x5 h_34 (k + 1) (n + 5) hw
    · have hw := hw_42 c_40
      refine v_iload_n (q := 3) dX0_open_131 rfl rfl ?_
      refine v_goto (tgt := 136) dX0_open_132 (by decide) ?_
      refine v_sub [0, 1, 2, 3, 4, 5] rfl ?_
      exact b_X0_open_136 x5 x3 (some a_32) (some a_32) x5 h_34 (k + 1) (n + 5) hw
  · have hw := hw_27 c_25
    refine v_aload_n (q := 0) dX0_open_107 rfl rfl ?_
    refine v_bipush dX0_open_108 bp_m4 ?_
    obtain ⟨fs_45, e_46, hw⟩ := hw
    refine v_callV0 q396 q398 qs0 q104 q399 (ci := 0) rfl e_46 n_X0_refuse ⟨Nat.le_of_ble_eq_true rfl, Nat.le_of_ble_eq_true rfl⟩ [.int (-4)] [] (met_X0_refuse hw) rfl (Nat.zero_le _) rfl rfl dX0_open_110 rfl (v_ki (fun z_43 h_44 hv => ?_))
    clear hw
    have hw := hv
    clear hv
    exact v_iret dX0_open_113 rfl ⟨_, rfl, hw⟩
theorem b_X0_open_86 {post : (Int32) → (AH) → Prop}   {b0 : Nat} {x1 : Int32} {x2 : Int32} {x3 : Int32} {x4 : Int32}    (s0 : Option Nat) (h : AH) (k : Nat) (n : Nat) (hw : w_X0_open_86 post b0 x1 x2 x3 x4 s0 h k n) : VV l E X cX0_open RX0 "open" 6 r_X0_open (some .int) (vpi (fun (r : Int32) (h' : AH) => post r h')) h k n 86 [(0, va_rf (some b0)), (1, .int x1), (2, .int x2), (3, .int x3), (4, .int x4)] [va_rf s0] := by
  refine v_astore (lv1 := [(5, va_rf s0), (0, va_rf (some b0)), (1, .int x1), (2, .int x2), (3, .int x3), (4, .int x4)]) dX0_open_86 (Nat.le_of_ble_eq_true rfl) rfl ?_
  refine v_aload (q := 0) dX0_open_88 rfl ?_
  obtain ⟨a_47, ea_47, hw⟩ := hw
  subst ea_47
  obtain ⟨fs_53, e_54, hw⟩ := hw
  refine v_callV0 q413 q414 q415 q108 q416 (ci := 2) rfl e_54 n_J2_size ⟨Nat.le_of_ble_eq_true rfl, Nat.le_of_ble_eq_true rfl⟩ [] [] (met_J2_size hw) rfl (Nat.zero_le _) rfl rfl dX0_open_90 rfl (v_ki (fun z_48 h1 hv => ?_))
  clear hw
  obtain ⟨e9, hw⟩ := hv
  refine v_heap e9 ?_
  clear e9
  refine v_iload_n (q := 2) dX0_open_93 rfl rfl ?_
  obtain ⟨hw_51, hw_52⟩ := hw
  refine v_if_ne (tgt := 102) dX0_open_94 (by decide) (fun c_49 => ?_) (fun c_50 => ?_)
  · have hw := hw_51 c_49
    refine v_bipush dX0_open_102 bp_12 ?_
    refine v_sub [1, 2, 3, 4, 5, 0] rfl ?_
    exact b_X0_open_104 (some a_47) (nI 12) z_48 h k n hw
  · have hw := hw_52 c_50
    refine v_bipush dX0_open_97 bp_40 ?_
    refine v_goto (tgt := 104) dX0_open_99 (by decide) ?_
    refine v_sub [1, 2, 3, 4, 5, 0] rfl ?_
    exact b_X0_open_104 (some a_47) (nI 40) z_48 h k n hw
theorem b_X0_open_65 {post : (Int32) → (AH) → Prop}   {b0 : Nat} {x1 : Int32} {x2 : Int32} {x3 : Int32} {x4 : Int32}    (h : AH) (k : Nat) (n : Nat) (hw : w_X0_open_65 post b0 x1 x2 x3 x4 h k n) : VV l E X cX0_open RX0 "open" 6 r_X0_open (some .int) (vpi (fun (r : Int32) (h' : AH) => post r h')) h k n 65 [(0, va_rf (some b0)), (1, .int x1), (2, .int x2), (3, .int x3), (4, .int x4)] [] := by
  refine v_iload_n (q := 1) dX0_open_65 rfl rfl ?_
  obtain ⟨hw_57, hw_58⟩ := hw
  refine v_if_ne (tgt := 79) dX0_open_66 (by decide) (fun c_55 => ?_) (fun c_56 => ?_)
  · have hw := hw_57 c_55
    refine v_aload_n (q := 0) dX0_open_79 rfl rfl ?_
    obtain ⟨fs_59, r_62, e_60, e_61, hw⟩ := hw
    refine v_get in_X0 (ci := 0) rfl 1 (Nat.le_of_ble_eq_true rfl) q319 rfl dX0_open_80 e_60 e_61 ?_
    obtain ⟨a_63, ea_63, hw⟩ := hw
    subst ea_63
    obtain ⟨fs_64, r_67, e_65, e_66, hw⟩ := hw
    refine v_getN in_X1 (ci := 1) rfl 4 (Nat.le_of_ble_eq_true rfl) q228 rfl dX0_open_83 e_65 e_66 ?_
    refine v_sub [0, 1, 2, 3, 4] rfl ?_
    exact b_X0_open_86 r_67 h k n hw
  · have hw := hw_58 c_56
    refine v_aload_n (q := 0) dX0_open_69 rfl rfl ?_
    obtain ⟨fs_68, r_71, e_69, e_70, hw⟩ := hw
    refine v_get in_X0 (ci := 0) rfl 1 (Nat.le_of_ble_eq_true rfl) q319 rfl dX0_open_70 e_69 e_70 ?_
    obtain ⟨a_72, ea_72, hw⟩ := hw
    subst ea_72
    obtain ⟨fs_73, r_76, e_74, e_75, hw⟩ := hw
    refine v_getN in_X1 (ci := 1) rfl 3 (Nat.le_of_ble_eq_true rfl) q226 rfl dX0_open_73 e_74 e_75 ?_
    refine v_goto (tgt := 86) dX0_open_76 (by decide) ?_
    refine v_sub [0, 1, 2, 3, 4] rfl ?_
    exact b_X0_open_86 r_76 h k n hw
theorem e_X0_open {post : (Int32) → (AH) → Prop}   {b0 : Nat} {x1 : Int32} {x2 : Int32} {x3 : Int32} {x4 : Int32} {h : AH}  (hw : w_X0_open post  b0 x1 x2 x3 x4 h) : VV l E X cX0_open RX0 "open" 6 r_X0_open (some .int) (vpi (fun (r : Int32) (h' : AH) => post r h')) h 0 0 0 [(0, va_rf (some b0)), (1, .int x1), (2, .int x2), (3, .int x3), (4, .int x4)] [] := by
  refine v_iload_n (q := 1) dX0_open_0 rfl rfl ?_
  refine v_i2l dX0_open_1 ?_
  refine v_lconst (v := lN 0) dX0_open_2 rfl ?_
  refine v_lconst (v := lN 1) dX0_open_3 rfl ?_
  refine v_callS0 q393 q394 q104 q395 n_X0_in ⟨Nat.le_of_ble_eq_true rfl, Nat.le_of_ble_eq_true rfl⟩ [.long ((x1).toInt64), .long (lN 0), .long (lN 1)] [] (met_X0_in hw) rfl (Nat.zero_le _) rfl rfl dX0_open_4 rfl (v_ki (fun z_77 h1 hv => ?_))
  clear hw
  obtain ⟨e9, hw⟩ := hv
  refine v_heap e9 ?_
  clear e9
  obtain ⟨hw_80, hw_81⟩ := hw
  refine v_if_ne (tgt := 17) dX0_open_7 (by decide) (fun c_78 => ?_) (fun c_79 => ?_)
  · have hw := hw_80 c_78
    refine v_iload_n (q := 1) dX0_open_17 rfl rfl ?_
    obtain ⟨hw_84, hw_85⟩ := hw
    refine v_if_ne (tgt := 46) dX0_open_18 (by decide) (fun c_82 => ?_) (fun c_83 => ?_)
    · have hw := hw_84 c_82
      refine v_iload_n (q := 2) dX0_open_46 rfl rfl ?_
      refine v_i2l dX0_open_47 ?_
      refine v_lconst (v := lN 0) dX0_open_48 rfl ?_
      refine v_ldc2 (v := (lN 5)) dX0_open_49 q412 ?_
      refine v_callS0 q393 q394 q104 q395 n_X0_in ⟨Nat.le_of_ble_eq_true rfl, Nat.le_of_ble_eq_true rfl⟩ [.long ((x2).toInt64), .long (lN 0), .long (lN 5)] [] (met_X0_in hw) rfl (Nat.zero_le _) rfl rfl dX0_open_52 rfl (v_ki (fun z_86 h1 hv => ?_))
      clear hw
      obtain ⟨e9, hw⟩ := hv
      refine v_heap e9 ?_
      clear e9
      obtain ⟨hw_89, hw_90⟩ := hw
      refine v_if_ne (tgt := 65) dX0_open_55 (by decide) (fun c_87 => ?_) (fun c_88 => ?_)
      · have hw := hw_89 c_87
        refine v_sub [0, 1, 2, 3, 4] rfl ?_
        exact b_X0_open_65 h 0 0 hw
      · have hw := hw_90 c_88
        refine v_sub [0, 1, 2, 3, 4] rfl ?_
        exact b_X0_open_58 h 0 0 hw
    · have hw := hw_85 c_83
      refine v_iload_n (q := 2) dX0_open_21 rfl rfl ?_
      refine v_callS0 q400 q401 q104 q402 n_X0_isTale ⟨Nat.le_of_ble_eq_true rfl, Nat.le_of_ble_eq_true rfl⟩ [.int x2] [] (met_X0_isTale hw) rfl (Nat.zero_le _) rfl rfl dX0_open_22 rfl (v_ki (fun z_91 h1 hv => ?_))
      clear hw
      obtain ⟨e9, hw⟩ := hv
      refine v_heap e9 ?_
      clear e9
      obtain ⟨hw_94, hw_95⟩ := hw
      refine v_if_eq (tgt := 58) dX0_open_25 (by decide) (fun c_92 => ?_) (fun c_93 => ?_)
      · have hw := hw_94 c_92
        refine v_sub [0, 1, 2, 3, 4] rfl ?_
        exact b_X0_open_58 h 0 0 hw
      · have hw := hw_95 c_93
        refine v_iload_n (q := 3) dX0_open_28 rfl rfl ?_
        refine v_callS0 q404 q405 q104 q406 n_X0_isGlen ⟨Nat.le_of_ble_eq_true rfl, Nat.le_of_ble_eq_true rfl⟩ [.int x3] [] (met_X0_isGlen hw) rfl (Nat.zero_le _) rfl rfl dX0_open_29 rfl (v_ki (fun z_96 h1 hv => ?_))
        clear hw
        obtain ⟨e9, hw⟩ := hv
        refine v_heap e9 ?_
        clear e9
        obtain ⟨hw_99, hw_100⟩ := hw
        refine v_if_eq (tgt := 58) dX0_open_32 (by decide) (fun c_97 => ?_) (fun c_98 => ?_)
        · have hw := hw_99 c_97
          refine v_sub [0, 1, 2, 3, 4] rfl ?_
          exact b_X0_open_58 h 0 0 hw
        · have hw := hw_100 c_98
          refine v_iload (q := 4) dX0_open_35 rfl ?_
          refine v_callS0 q408 q409 q104 q410 n_X0_isDay ⟨Nat.le_of_ble_eq_true rfl, Nat.le_of_ble_eq_true rfl⟩ [.int x4] [] (met_X0_isDay hw) rfl (Nat.zero_le _) rfl rfl dX0_open_37 rfl (v_ki (fun z_101 h1 hv => ?_))
          clear hw
          obtain ⟨e9, hw⟩ := hv
          refine v_heap e9 ?_
          clear e9
          obtain ⟨hw_104, hw_105⟩ := hw
          refine v_if_ne (tgt := 65) dX0_open_40 (by decide) (fun c_102 => ?_) (fun c_103 => ?_)
          · have hw := hw_104 c_102
            refine v_sub [0, 1, 2, 3, 4] rfl ?_
            exact b_X0_open_65 h 0 0 hw
          · have hw := hw_105 c_103
            refine v_goto (tgt := 58) dX0_open_43 (by decide) ?_
            refine v_sub [0, 1, 2, 3, 4] rfl ?_
            exact b_X0_open_58 h 0 0 hw
  · have hw := hw_81 c_79
    refine v_aload_n (q := 0) dX0_open_10 rfl rfl ?_
    refine v_bipush dX0_open_11 bp_m2 ?_
    obtain ⟨fs_108, e_109, hw⟩ := hw
    refine v_callV0 q396 q398 qs0 q104 q399 (ci := 0) rfl e_109 n_X0_refuse ⟨Nat.le_of_ble_eq_true rfl, Nat.le_of_ble_eq_true rfl⟩ [.int (-2)] [] (met_X0_refuse hw) rfl (Nat.zero_le _) rfl rfl dX0_open_13 rfl (v_ki (fun z_106 h_107 hv => ?_))
    clear hw
    have hw := hv
    clear hv
    exact v_iret dX0_open_16 rfl ⟨_, rfl, hw⟩
theorem met_X0_open {post : (Int32) → (AH) → Prop}   {b0 : Nat} {x1 : Int32} {x2 : Int32} {x3 : Int32} {x4 : Int32} {h : AH}  (hw : w_X0_open post  b0 x1 x2 x3 x4 h) : Mt l E yX0_open (ws_ yX0_open cX0_open 6 (some .int)) r_X0_open [va_rf (some b0), .int x1, .int x2, .int x3, .int x4] h (vpi (fun (r : Int32) (h' : AH) => post r h')) := v_entry (by decide +kernel) (Nat.le_of_ble_eq_true rfl) rfl (fun _ => e_X0_open hw)
end WALK
