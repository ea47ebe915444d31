/-! calls through the two interfaces: Comes (kind, from, said) and Test (is) -/
set_option maxRecDepth 100000
section FACES
variable {l : Launch} {E : VE} {X : VX} {cc : ByteArray} {own nm : String} {nL : Nat} {R : Room} {ret : Option FieldType} {P : Option Value → AH → Prop} {h : AH} {k n pc : Nat} {lv : List (Nat × Value)} {st : List Value}
abbrev yKind : MethodName := ⟨"NobodysBard$Comes", "kind", "()I"⟩
abbrev yFrom : MethodName := ⟨"NobodysBard$Comes", "from", "()I"⟩
abbrev ySaid : MethodName := ⟨"NobodysBard$Comes", "said", "()I"⟩
abbrev yTst : MethodName := ⟨"NobodysBard$Test", "is", "(LNobodysBard$Phrase;I)Z"⟩
theorem n_Kind : vdn yKind 0 := ⟨by decide +kernel, by decide +kernel, by decide +kernel⟩
theorem n_From : vdn yFrom 0 := ⟨by decide +kernel, by decide +kernel, by decide +kernel⟩
theorem n_Said : vdn ySaid 0 := ⟨by decide +kernel, by decide +kernel, by decide +kernel⟩
theorem n_Tst : vdn yTst 2 := ⟨by decide +kernel, by decide +kernel, by decide +kernel⟩
/-- a call through an interface of a method that makes no cells and reads alone -/
theorem v_face {x : MethodName} {cnt : Nat} {C : String} {y : MethodName} {b : ByteArray} {L na : Nat} {rt : Option FieldType} {rm : Room} {post : Int32 → Prop} {idx ci N ra : Nat} {T : u_T} {fs : List Value} (q1 : Cond.methodLink own idx x ∈ lw_all) (q2 : Cond.selects C x y ∈ lw_all) (q3 : Cond.instanceMethod y ∈ lw_all) (q4 : Cond.initialized y.cls ∈ lw_all) (q5 : Cond.code y b L rt ∈ lw_all) (q6 : (C, x, y) ∈ vfaces) (hc : vcl[ci]? = some (C, T, N)) (hra : h ra = some (.inr (ci, fs))) (hdn : vdn x na) (hR : rm.frames + 1 ≤ R.frames ∧ 8 + (L + 11) + rm.locals ≤ R.locals) (av rest : List Value) (hM : Mt l E y (ws_ y b L rt) rm (va_rf (some ra) :: av) h (vpi (fun (r : Int32) (h' : AH) => h' = h ∧ post r))) (hna : av.length = na) (hst : (rest.map fun v => v.category).sum ≤ 8) (hc0 : rm.cells = 0) (hs0 : rm.slots = 0) (d : decode cc pc = .ok (.invokeinterface idx cnt, 5)) (hst0 : st = av.reverse ++ (va_rf (some ra) :: rest)) (kk : ∀ r : Int32, post r → VV l E X cc own nm nL R ret P h k n (pc + 5) lv (.int r :: rest)) : VV l E X cc own nm nL R ret P h k n pc lv st := by
  obtain ⟨p, e, s, m, args, below, meth, c, A⟩ := X
  intro ok H locs ls hp hd hS hk hn hl
  refine v_callF q1 q2 q3 q4 q5 q6 hc hra hdn hR av rest hM hna hst ⟨by rw [hc0]; exact hk, by rw [hs0]; exact hn⟩ d hst0 (v_ki (fun r h1 hv => ?_)) ok H locs ls hp hd hS hk hn hl
  rw [hv.1, hc0, hs0]
  exact kk r hv.2
theorem v_faceD {x : MethodName} {cnt : Nat} {C : String} {y : MethodName} {b : ByteArray} {L na : Nat} {rt : Option FieldType} {rm : Room} {post : Int32 → Prop} {idx ci N ra : Nat} {T : u_T} {fs : List Value} (q1 : Cond.methodLink own idx x ∈ lw_all) (q3 : Cond.instanceMethod y ∈ lw_all) (q4 : Cond.initialized y.cls ∈ lw_all) (q5 : Cond.code y b L rt ∈ lw_all) (q6 : (C, x, y) ∈ vfacesD) (hc : vcl[ci]? = some (C, T, N)) (hra : h ra = some (.inr (ci, fs))) (hdn : vdn x na) (hR : rm.frames + 1 ≤ R.frames ∧ 8 + (L + 11) + rm.locals ≤ R.locals) (av rest : List Value) (hM : Mt l E y (ws_ y b L rt) rm (va_rf (some ra) :: av) h (vpi (fun (r : Int32) (h' : AH) => h' = h ∧ post r))) (hna : av.length = na) (hst : (rest.map fun v => v.category).sum ≤ 8) (hc0 : rm.cells = 0) (hs0 : rm.slots = 0) (d : decode cc pc = .ok (.invokeinterface idx cnt, 5)) (hst0 : st = av.reverse ++ (va_rf (some ra) :: rest)) (kk : ∀ r : Int32, post r → VV l E X cc own nm nL R ret P h k n (pc + 5) lv (.int r :: rest)) : VV l E X cc own nm nL R ret P h k n pc lv st := by
  obtain ⟨p, e, s, m, args, below, meth, c, A⟩ := X
  intro ok H locs ls hp hd hS hk hn hl
  refine v_callFD q1 q3 q4 q5 q6 hc hra hdn hR av rest hM hna hst ⟨by rw [hc0]; exact hk, by rw [hs0]; exact hn⟩ d hst0 (v_ki (fun r h1 hv => ?_)) ok H locs ls hp hd hS hk hn hl
  rw [hv.1, hc0, hs0]
  exact kk r hv.2
end FACES
def w_Kind (post : Int32 → Prop) (a : Nat) (h : AH) : Prop := ∃ (ci : Nat) (fs : List Value), h a = some (.inr (ci, fs)) ∧ ((ci = 18 ∧ w_X18_kind post a h) ∨ (ci = 19 ∧ w_X19_kind post a h) ∨ (ci = 20 ∧ w_X20_kind post a h) ∨ (ci = 21 ∧ w_X21_kind post a h) ∨ (ci = 4 ∧ w_X3_kind post a h) ∨ (ci = 5 ∧ w_X4_kind post a h))
set_option maxHeartbeats 4000000 in
theorem v_Kind {l : Launch} {E : VE} {X : VX} {cc : ByteArray} {own nm : String} {nL : Nat} {R : Room} {ret : Option FieldType} {P : Option Value → AH → Prop} {h : AH} {k n pc : Nat} {lv : List (Nat × Value)} {post : Int32 → Prop} {idx cnt a : Nat} (q1 : Cond.methodLink own idx yKind ∈ lw_all) (hR : 4 ≤ R.frames ∧ 100 ≤ R.locals) (rest : List Value) (hw : w_Kind post a h) (hst : (rest.map fun v => v.category).sum ≤ 8) (d : decode cc pc = .ok (.invokeinterface idx cnt, 5)) (kk : ∀ r : Int32, post r → VV l E X cc own nm nL R ret P h k n (pc + 5) lv (.int r :: rest)) : VV l E X cc own nm nL R ret P h k n pc lv (va_rf (some a) :: rest) := by
  obtain ⟨ci, fs, e1, hw⟩ := hw
  rcases hw with ⟨rfl, hw⟩ | ⟨rfl, hw⟩ | ⟨rfl, hw⟩ | ⟨rfl, hw⟩ | ⟨rfl, hw⟩ | ⟨rfl, hw⟩
  · exact v_face (C := "NobodysBard$Had") (y := yX18_kind) q1 q1083 q1085 q134 q1087 (by decide +kernel) (ci := 18) rfl e1 n_Kind ⟨Nat.le_trans (by decide) hR.1, Nat.le_trans (by decide) hR.2⟩ [] rest (met_X18_kind hw) rfl hst rfl rfl d rfl kk
  · exact v_face (C := "NobodysBard$Moved") (y := yX19_kind) q1 q1095 q1097 q135 q1099 (by decide +kernel) (ci := 19) rfl e1 n_Kind ⟨Nat.le_trans (by decide) hR.1, Nat.le_trans (by decide) hR.2⟩ [] rest (met_X19_kind hw) rfl hst rfl rfl d rfl kk
  · exact v_face (C := "NobodysBard$Smoothed") (y := yX20_kind) q1 q1107 q1109 q136 q1111 (by decide +kernel) (ci := 20) rfl e1 n_Kind ⟨Nat.le_trans (by decide) hR.1, Nat.le_trans (by decide) hR.2⟩ [] rest (met_X20_kind hw) rfl hst rfl rfl d rfl kk
  · exact v_face (C := "NobodysBard$Borrowed") (y := yX21_kind) q1 q1077 q1079 q137 q1081 (by decide +kernel) (ci := 21) rfl e1 n_Kind ⟨Nat.le_trans (by decide) hR.1, Nat.le_trans (by decide) hR.2⟩ [] rest (met_X21_kind hw) rfl hst rfl rfl d rfl kk
  · exact v_face (C := "NobodysBard$MayBe") (y := yX3_kind) q1 q1089 q1091 q110 q1093 (by decide +kernel) (ci := 4) rfl e1 n_Kind ⟨Nat.le_trans (by decide) hR.1, Nat.le_trans (by decide) hR.2⟩ [] rest (met_X3_kind hw) rfl hst rfl rfl d rfl kk
  · exact v_face (C := "NobodysBard$Own") (y := yX4_kind) q1 q1101 q1103 q111 q1105 (by decide +kernel) (ci := 5) rfl e1 n_Kind ⟨Nat.le_trans (by decide) hR.1, Nat.le_trans (by decide) hR.2⟩ [] rest (met_X4_kind hw) rfl hst rfl rfl d rfl kk
def w_From (post : Int32 → Prop) (a : Nat) (h : AH) : Prop := ∃ (ci : Nat) (fs : List Value), h a = some (.inr (ci, fs)) ∧ ((ci = 18 ∧ w_X17_from_X18 post a h) ∨ (ci = 19 ∧ w_X17_from_X19 post a h) ∨ (ci = 20 ∧ w_X17_from_X20 post a h) ∨ (ci = 21 ∧ w_X17_from_X21 post a h) ∨ (ci = 4 ∧ w_X25_from post a h) ∨ (ci = 5 ∧ w_X25_from post a h))
set_option maxHeartbeats 4000000 in
theorem v_From {l : Launch} {E : VE} {X : VX} {cc : ByteArray} {own nm : String} {nL : Nat} {R : Room} {ret : Option FieldType} {P : Option Value → AH → Prop} {h : AH} {k n pc : Nat} {lv : List (Nat × Value)} {post : Int32 → Prop} {idx cnt a : Nat} (q1 : Cond.methodLink own idx yFrom ∈ lw_all) (hR : 4 ≤ R.frames ∧ 100 ≤ R.locals) (rest : List Value) (hw : w_From post a h) (hst : (rest.map fun v => v.category).sum ≤ 8) (d : decode cc pc = .ok (.invokeinterface idx cnt, 5)) (kk : ∀ r : Int32, post r → VV l E X cc own nm nL R ret P h k n (pc + 5) lv (.int r :: rest)) : VV l E X cc own nm nL R ret P h k n pc lv (va_rf (some a) :: rest) := by
  obtain ⟨ci, fs, e1, hw⟩ := hw
  rcases hw with ⟨rfl, hw⟩ | ⟨rfl, hw⟩ | ⟨rfl, hw⟩ | ⟨rfl, hw⟩ | ⟨rfl, hw⟩ | ⟨rfl, hw⟩
  · exact v_face (C := "NobodysBard$Had") (y := yX17_from) q1 q1121 q1118 q133 q1120 (by decide +kernel) (ci := 18) rfl e1 n_From ⟨Nat.le_trans (by decide) hR.1, Nat.le_trans (by decide) hR.2⟩ [] rest (met_X17_from_X18 hw) rfl hst rfl rfl d rfl kk
  · exact v_face (C := "NobodysBard$Moved") (y := yX17_from) q1 q1127 q1118 q133 q1120 (by decide +kernel) (ci := 19) rfl e1 n_From ⟨Nat.le_trans (by decide) hR.1, Nat.le_trans (by decide) hR.2⟩ [] rest (met_X17_from_X19 hw) rfl hst rfl rfl d rfl kk
  · exact v_face (C := "NobodysBard$Smoothed") (y := yX17_from) q1 q1130 q1118 q133 q1120 (by decide +kernel) (ci := 20) rfl e1 n_From ⟨Nat.le_trans (by decide) hR.1, Nat.le_trans (by decide) hR.2⟩ [] rest (met_X17_from_X20 hw) rfl hst rfl rfl d rfl kk
  · exact v_face (C := "NobodysBard$Borrowed") (y := yX17_from) q1 q1116 q1118 q133 q1120 (by decide +kernel) (ci := 21) rfl e1 n_From ⟨Nat.le_trans (by decide) hR.1, Nat.le_trans (by decide) hR.2⟩ [] rest (met_X17_from_X21 hw) rfl hst rfl rfl d rfl kk
  · exact v_faceD (C := "NobodysBard$MayBe") (y := yX25_from) q1 q1124 q2167 q1126 (by decide +kernel) (ci := 4) rfl e1 n_From ⟨Nat.le_trans (by decide) hR.1, Nat.le_trans (by decide) hR.2⟩ [] rest (met_X25_from hw) rfl hst rfl rfl d rfl kk
  · exact v_faceD (C := "NobodysBard$Own") (y := yX25_from) q1 q1124 q2167 q1126 (by decide +kernel) (ci := 5) rfl e1 n_From ⟨Nat.le_trans (by decide) hR.1, Nat.le_trans (by decide) hR.2⟩ [] rest (met_X25_from hw) rfl hst rfl rfl d rfl kk
def rUp (rm : Room) : Room := { frames := rm.frames + 1, cells := 0, slots := 0, locals := rm.locals + 40 }
def rTst (d : Nat) : Room := { frames := d + 3, cells := 0, slots := 0, locals := 40 * d + 100 }
/-- what a test's predicate gives: the receiver is of one of the five classes, and meets its contract -/
def TstOK (l : Launch) (E : VE) (rm : Room) (wt : (Int32 → Prop) → Nat → Option Nat → Int32 → AH → Prop) : Prop := (rm.cells = 0 ∧ rm.slots = 0) ∧ ∀ (post : Int32 → Prop) (a : Nat) (x1 : Option Nat) (x2 : Int32) (h : AH), wt post a x1 x2 h → ∃ (ci : Nat) (fs : List Value), h a = some (.inr (ci, fs)) ∧ ((ci = 14 ∧ Mt l E yX13_is (ws_ yX13_is cX13_is 3 (some .boolean)) rm [va_rf (some a), va_rf x1, .int x2] h (vpi (fun (r : Int32) (h' : AH) => h' = h ∧ post r))) ∨ (ci = 15 ∧ Mt l E yX14_is (ws_ yX14_is cX14_is 3 (some .boolean)) rm [va_rf (some a), va_rf x1, .int x2] h (vpi (fun (r : Int32) (h' : AH) => h' = h ∧ post r))) ∨ (ci = 16 ∧ Mt l E yX15_is (ws_ yX15_is cX15_is 3 (some .boolean)) rm [va_rf (some a), va_rf x1, .int x2] h (vpi (fun (r : Int32) (h' : AH) => h' = h ∧ post r))) ∨ (ci = 13 ∧ Mt l E yX12_is (ws_ yX12_is cX12_is 3 (some .boolean)) rm [va_rf (some a), va_rf x1, .int x2] h (vpi (fun (r : Int32) (h' : AH) => h' = h ∧ post r))) ∨ (ci = 17 ∧ Mt l E yX16_is (ws_ yX16_is cX16_is 3 (some .boolean)) rm [va_rf (some a), va_rf x1, .int x2] h (vpi (fun (r : Int32) (h' : AH) => h' = h ∧ post r))))
set_option maxHeartbeats 4000000 in
theorem v_TstG {l : Launch} {E : VE} {X : VX} {cc : ByteArray} {own nm : String} {nL : Nat} {R rm : Room} {ret : Option FieldType} {P : Option Value → AH → Prop} {h : AH} {k n pc : Nat} {lv : List (Nat × Value)} {wt : (Int32 → Prop) → Nat → Option Nat → Int32 → AH → Prop} {post : Int32 → Prop} {idx cnt a : Nat} {x1 : Option Nat} {x2 : Int32} (ht : TstOK l E rm wt) (q1 : Cond.methodLink own idx yTst ∈ lw_all) (hR : rm.frames + 1 ≤ R.frames ∧ 23 + rm.locals ≤ R.locals) (rest : List Value) (hw : wt post a x1 x2 h) (hst : (rest.map fun v => v.category).sum ≤ 8) (d : decode cc pc = .ok (.invokeinterface idx cnt, 5)) (kk : ∀ r : Int32, post r → VV l E X cc own nm nL R ret P h k n (pc + 5) lv (.int r :: rest)) : VV l E X cc own nm nL R ret P h k n pc lv (.int x2 :: va_rf x1 :: va_rf (some a) :: rest) := by
  obtain ⟨⟨hc0, hs0⟩, ht⟩ := ht
  obtain ⟨ci, fs, e1, hM⟩ := ht post a x1 x2 h hw
  rcases hM with ⟨rfl, hM⟩ | ⟨rfl, hM⟩ | ⟨rfl, hM⟩ | ⟨rfl, hM⟩ | ⟨rfl, hM⟩
  · exact v_face (C := "NobodysBard$Has") (y := yX13_is) q1 q943 q945 q129 q947 (by decide +kernel) (ci := 14) rfl e1 n_Tst ⟨hR.1, by have := hR.2; omega⟩ [va_rf x1, .int x2] rest hM rfl hst hc0 hs0 d rfl kk
  · exact v_face (C := "NobodysBard$AsLong") (y := yX14_is) q1 q929 q931 q130 q933 (by decide +kernel) (ci := 15) rfl e1 n_Tst ⟨hR.1, by have := hR.2; omega⟩ [va_rf x1, .int x2] rest hM rfl hst hc0 hs0 d rfl kk
  · exact v_face (C := "NobodysBard$OfTale") (y := yX15_is) q1 q961 q963 q131 q965 (by decide +kernel) (ci := 16) rfl e1 n_Tst ⟨hR.1, by have := hR.2; omega⟩ [va_rf x1, .int x2] rest hM rfl hst hc0 hs0 d rfl kk
  · exact v_face (C := "NobodysBard$Not") (y := yX12_is) q1 q953 q955 q128 q957 (by decide +kernel) (ci := 13) rfl e1 n_Tst ⟨hR.1, by have := hR.2; omega⟩ [va_rf x1, .int x2] rest hM rfl hst hc0 hs0 d rfl kk
  · exact v_face (C := "NobodysBard$Both") (y := yX16_is) q1 q935 q937 q132 q939 (by decide +kernel) (ci := 17) rfl e1 n_Tst ⟨hR.1, by have := hR.2; omega⟩ [va_rf x1, .int x2] rest hM rfl hst hc0 hs0 d rfl kk
set_option maxRecDepth 100000
section WALK
variable {l : Launch} {E : VE} {X : VX} {b : Nat → Nat}
/-! X12_is -/
theorem n_X12_is : vdn yX12_is 2 := ⟨by decide +kernel, by decide +kernel, by decide +kernel⟩
def w_X12_is (post : (Int32) → Prop) (wt : (Int32 → Prop) → Nat → Option Nat → Int32 → AH → Prop) (b0 : Nat) (x1 : Option Nat) (x2 : Int32) (h : AH) : Prop :=
 (∃ (fs_1 : List Value) (r_4 : Option Nat), h b0 = some (.inr (13, fs_1)) ∧ fs_1[0]? = some (va_rf r_4) ∧ (∃ a_5 : Nat, r_4 = some a_5 ∧ (wt (fun (z_6 : Int32) => ((¬ z_6 = 0 → (post (nI 0))) ∧ (z_6 = 0 → (post (nI 1))))) a_5 x1 x2 h)))
theorem e_X12_is {post : (Int32) → Prop} {rm : Room} {wt : (Int32 → Prop) → Nat → Option Nat → Int32 → AH → Prop} {b0 : Nat} {x1 : Option Nat} {x2 : Int32} {h : AH} (ht : TstOK l E rm wt) (hw : w_X12_is post wt b0 x1 x2 h) : VV l E X cX12_is RX12 "is" 3 (rUp rm) (some .boolean) (vpi (fun (r : Int32) (h' : AH) => h' = h ∧ post r)) h 0 0 0 [(0, va_rf (some b0)), (1, va_rf x1), (2, .int x2)] [] := by
  refine v_aload_n (q := 0) dX12_is_0 rfl rfl ?_
  obtain ⟨fs_1, r_4, e_2, e_3, hw⟩ := hw
  refine v_get in_X12 (ci := 13) rfl 0 (Nat.le_of_ble_eq_true rfl) q830 rfl dX12_is_1 e_2 e_3 ?_
  refine v_aload_n (q := 1) dX12_is_4 rfl rfl ?_
  refine v_iload_n (q := 2) dX12_is_5 rfl rfl ?_
  obtain ⟨a_5, ea_5, hw⟩ := hw
  subst ea_5
  refine v_TstG ht q959 ⟨Nat.le_refl _, (by show 23 + rm.locals ≤ rm.locals + 40; omega)⟩ [] hw (Nat.zero_le _) dX12_is_6 (fun z_6 hv => ?_)
  clear hw
  have hw := hv
  clear hv
  obtain ⟨hw_9, hw_10⟩ := hw
  refine v_if_ne (tgt := 18) dX12_is_11 (by decide) (fun c_7 => ?_) (fun c_8 => ?_)
  · have hw := hw_9 c_7
    refine v_iconst dX12_is_18 ic_0 ?_
    exact v_zret dX12_is_19 rfl rfl ⟨_, rfl, rfl, hw⟩
  · have hw := hw_10 c_8
    refine v_iconst dX12_is_14 ic_1 ?_
    refine v_goto (tgt := 19) dX12_is_15 (by decide) ?_
    exact v_zret dX12_is_19 rfl rfl ⟨_, rfl, rfl, hw⟩
theorem met_X12_is {post : (Int32) → Prop} {rm : Room} {wt : (Int32 → Prop) → Nat → Option Nat → Int32 → AH → Prop} {b0 : Nat} {x1 : Option Nat} {x2 : Int32} {h : AH} (ht : TstOK l E rm wt) (hw : w_X12_is post wt b0 x1 x2 h) : Mt l E yX12_is (ws_ yX12_is cX12_is 3 (some .boolean)) (rUp rm) [va_rf (some b0), va_rf x1, .int x2] h (vpi (fun (r : Int32) (h' : AH) => h' = h ∧ post r)) := v_entry (by decide +kernel) (by cases x1 <;> exact (Nat.le_of_ble_eq_true rfl)) (by cases x1 <;> exact rfl) (fun _ => e_X12_is ht hw)
/-! X16_is -/
theorem n_X16_is : vdn yX16_is 2 := ⟨by decide +kernel, by decide +kernel, by decide +kernel⟩
def w_X16_is_39 (post : (Int32) → Prop) (wt : (Int32 → Prop) → Nat → Option Nat → Int32 → AH → Prop) (b0 : Nat) (x1 : Option Nat) (x2 : Int32) (h : AH) : Prop :=
 (post (nI 0))
def w_X16_is_71 (post : (Int32) → Prop) (wt : (Int32 → Prop) → Nat → Option Nat → Int32 → AH → Prop) (b0 : Nat) (x1 : Option Nat) (x2 : Int32) (h : AH) : Prop :=
 (post (nI 1))
def w_X16_is (post : (Int32) → Prop) (wt : (Int32 → Prop) → Nat → Option Nat → Int32 → AH → Prop) (b0 : Nat) (x1 : Option Nat) (x2 : Int32) (h : AH) : Prop :=
 (∃ (fs_1 : List Value) (z_4 : Int32), h b0 = some (.inr (17, fs_1)) ∧ fs_1[0]? = some (.int z_4) ∧ ((z_4 = 0 → (∃ (fs_9 : List Value) (r_12 : Option Nat), h b0 = some (.inr (17, fs_9)) ∧ fs_9[1]? = some (va_rf r_12) ∧ (∃ a_13 : Nat, r_12 = some a_13 ∧ (wt (fun (z_14 : Int32) => ((¬ z_14 = 0 → (w_X16_is_71 post wt b0 x1 x2 h)) ∧ (z_14 = 0 → (∃ (fs_19 : List Value) (r_22 : Option Nat), h b0 = some (.inr (17, fs_19)) ∧ fs_19[2]? = some (va_rf r_22) ∧ (∃ a_23 : Nat, r_22 = some a_23 ∧ (wt (fun (z_24 : Int32) => ((z_24 = 0 → (post (nI 0))) ∧ (¬ z_24 = 0 → (w_X16_is_71 post wt b0 x1 x2 h)))) a_23 x1 x2 h)))))) a_13 x1 x2 h)))) ∧ (¬ z_4 = 0 → (∃ (fs_29 : List Value) (r_32 : Option Nat), h b0 = some (.inr (17, fs_29)) ∧ fs_29[1]? = some (va_rf r_32) ∧ (∃ a_33 : Nat, r_32 = some a_33 ∧ (wt (fun (z_34 : Int32) => ((z_34 = 0 → (w_X16_is_39 post wt b0 x1 x2 h)) ∧ (¬ z_34 = 0 → (∃ (fs_39 : List Value) (r_42 : Option Nat), h b0 = some (.inr (17, fs_39)) ∧ fs_39[2]? = some (va_rf r_42) ∧ (∃ a_43 : Nat, r_42 = some a_43 ∧ (wt (fun (z_44 : Int32) => ((z_44 = 0 → (w_X16_is_39 post wt b0 x1 x2 h)) ∧ (¬ z_44 = 0 → (post (nI 1))))) a_43 x1 x2 h)))))) a_33 x1 x2 h))))))
theorem b_X16_is_39 {post : (Int32) → Prop} {rm : Room} {wt : (Int32 → Prop) → Nat → Option Nat → Int32 → AH → Prop} {b0 : Nat} {x1 : Option Nat} {x2 : Int32} {h : AH}  (ht : TstOK l E rm wt)   (hw : w_X16_is_39 post wt b0 x1 x2 h) : VV l E X cX16_is RX16 "is" 3 (rUp rm) (some .boolean) (vpi (fun (r : Int32) (h' : AH) => h' = h ∧ post r)) h 0 0 39 [(0, va_rf (some b0)), (1, va_rf x1), (2, .int x2)] [] := by
  refine v_iconst dX16_is_39 ic_0 ?_
  refine v_goto (tgt := 76) dX16_is_40 (by decide) ?_
  exact v_zret dX16_is_76 rfl rfl ⟨_, rfl, rfl, hw⟩
theorem b_X16_is_71 {post : (Int32) → Prop} {rm : Room} {wt : (Int32 → Prop) → Nat → Option Nat → Int32 → AH → Prop} {b0 : Nat} {x1 : Option Nat} {x2 : Int32} {h : AH}  (ht : TstOK l E rm wt)   (hw : w_X16_is_71 post wt b0 x1 x2 h) : VV l E X cX16_is RX16 "is" 3 (rUp rm) (some .boolean) (vpi (fun (r : Int32) (h' : AH) => h' = h ∧ post r)) h 0 0 71 [(0, va_rf (some b0)), (1, va_rf x1), (2, .int x2)] [] := by
  refine v_iconst dX16_is_71 ic_1 ?_
  refine v_goto (tgt := 76) dX16_is_72 (by decide) ?_
  exact v_zret dX16_is_76 rfl rfl ⟨_, rfl, rfl, hw⟩
theorem e_X16_is {post : (Int32) → Prop} {rm : Room} {wt : (Int32 → Prop) → Nat → Option Nat → Int32 → AH → Prop} {b0 : Nat} {x1 : Option Nat} {x2 : Int32} {h : AH} (ht : TstOK l E rm wt) (hw : w_X16_is post wt b0 x1 x2 h) : VV l E X cX16_is RX16 "is" 3 (rUp rm) (some .boolean) (vpi (fun (r : Int32) (h' : AH) => h' = h ∧ post r)) h 0 0 0 [(0, va_rf (some b0)), (1, va_rf x1), (2, .int x2)] [] := by
  refine v_aload_n (q := 0) dX16_is_0 rfl rfl ?_
  obtain ⟨fs_1, z_4, e_2, e_3, hw⟩ := hw
  refine v_get in_X16 (ci := 17) rfl 0 (Nat.le_of_ble_eq_true rfl) q874 rfl dX16_is_1 e_2 e_3 ?_
  obtain ⟨hw_7, hw_8⟩ := hw
  refine v_if_eq (tgt := 43) dX16_is_4 (by decide) (fun c_5 => ?_) (fun c_6 => ?_)
  · have hw := hw_7 c_5
    refine v_aload_n (q := 0) dX16_is_43 rfl rfl ?_
    obtain ⟨fs_9, r_12, e_10, e_11, hw⟩ := hw
    refine v_get in_X16 (ci := 17) rfl 1 (Nat.le_of_ble_eq_true rfl) q875 rfl dX16_is_44 e_10 e_11 ?_
    refine v_aload_n (q := 1) dX16_is_47 rfl rfl ?_
    refine v_iload_n (q := 2) dX16_is_48 rfl rfl ?_
    obtain ⟨a_13, ea_13, hw⟩ := hw
    subst ea_13
    refine v_TstG ht q941 ⟨Nat.le_refl _, (by show 23 + rm.locals ≤ rm.locals + 40; omega)⟩ [] hw (Nat.zero_le _) dX16_is_49 (fun z_14 hv => ?_)
    clear hw
    have hw := hv
    clear hv
    obtain ⟨hw_17, hw_18⟩ := hw
    refine v_if_ne (tgt := 71) dX16_is_54 (by decide) (fun c_15 => ?_) (fun c_16 => ?_)
    · have hw := hw_17 c_15
      refine v_sub [0, 1, 2] rfl ?_
      exact b_X16_is_71 ht  hw
    · have hw := hw_18 c_16
      refine v_aload_n (q := 0) dX16_is_57 rfl rfl ?_
      obtain ⟨fs_19, r_22, e_20, e_21, hw⟩ := hw
      refine v_get in_X16 (ci := 17) rfl 2 (Nat.le_of_ble_eq_true rfl) q876 rfl dX16_is_58 e_20 e_21 ?_
      refine v_aload_n (q := 1) dX16_is_61 rfl rfl ?_
      refine v_iload_n (q := 2) dX16_is_62 rfl rfl ?_
      obtain ⟨a_23, ea_23, hw⟩ := hw
      subst ea_23
      refine v_TstG ht q941 ⟨Nat.le_refl _, (by show 23 + rm.locals ≤ rm.locals + 40; omega)⟩ [] hw (Nat.zero_le _) dX16_is_63 (fun z_24 hv => ?_)
      clear hw
      have hw := hv
      clear hv
      obtain ⟨hw_27, hw_28⟩ := hw
      refine v_if_eq (tgt := 75) dX16_is_68 (by decide) (fun c_25 => ?_) (fun c_26 => ?_)
      · have hw := hw_27 c_25
        refine v_iconst dX16_is_75 ic_0 ?_
        exact v_zret dX16_is_76 rfl rfl ⟨_, rfl, rfl, hw⟩
      · have hw := hw_28 c_26
        refine v_sub [0, 1, 2] rfl ?_
        exact b_X16_is_71 ht  hw
  · have hw := hw_8 c_6
    refine v_aload_n (q := 0) dX16_is_7 rfl rfl ?_
    obtain ⟨fs_29, r_32, e_30, e_31, hw⟩ := hw
    refine v_get in_X16 (ci := 17) rfl 1 (Nat.le_of_ble_eq_true rfl) q875 rfl dX16_is_8 e_30 e_31 ?_
    refine v_aload_n (q := 1) dX16_is_11 rfl rfl ?_
    refine v_iload_n (q := 2) dX16_is_12 rfl rfl ?_
    obtain ⟨a_33, ea_33, hw⟩ := hw
    subst ea_33
    refine v_TstG ht q941 ⟨Nat.le_refl _, (by show 23 + rm.locals ≤ rm.locals + 40; omega)⟩ [] hw (Nat.zero_le _) dX16_is_13 (fun z_34 hv => ?_)
    clear hw
    have hw := hv
    clear hv
    obtain ⟨hw_37, hw_38⟩ := hw
    refine v_if_eq (tgt := 39) dX16_is_18 (by decide) (fun c_35 => ?_) (fun c_36 => ?_)
    · have hw := hw_37 c_35
      refine v_sub [0, 1, 2] rfl ?_
      exact b_X16_is_39 ht  hw
    · have hw := hw_38 c_36
      refine v_aload_n (q := 0) dX16_is_21 rfl rfl ?_
      obtain ⟨fs_39, r_42, e_40, e_41, hw⟩ := hw
      refine v_get in_X16 (ci := 17) rfl 2 (Nat.le_of_ble_eq_true rfl) q876 rfl dX16_is_22 e_40 e_41 ?_
      refine v_aload_n (q := 1) dX16_is_25 rfl rfl ?_
      refine v_iload_n (q := 2) dX16_is_26 rfl rfl ?_
      obtain ⟨a_43, ea_43, hw⟩ := hw
      subst ea_43
      refine v_TstG ht q941 ⟨Nat.le_refl _, (by show 23 + rm.locals ≤ rm.locals + 40; omega)⟩ [] hw (Nat.zero_le _) dX16_is_27 (fun z_44 hv => ?_)
      clear hw
      have hw := hv
      clear hv
      obtain ⟨hw_47, hw_48⟩ := hw
      refine v_if_eq (tgt := 39) dX16_is_32 (by decide) (fun c_45 => ?_) (fun c_46 => ?_)
      · have hw := hw_47 c_45
        refine v_sub [0, 1, 2] rfl ?_
        exact b_X16_is_39 ht  hw
      · have hw := hw_48 c_46
        refine v_iconst dX16_is_35 ic_1 ?_
        refine v_goto (tgt := 76) dX16_is_36 (by decide) ?_
        exact v_zret dX16_is_76 rfl rfl ⟨_, rfl, rfl, hw⟩
theorem met_X16_is {post : (Int32) → Prop} {rm : Room} {wt : (Int32 → Prop) → Nat → Option Nat → Int32 → AH → Prop} {b0 : Nat} {x1 : Option Nat} {x2 : Int32} {h : AH} (ht : TstOK l E rm wt) (hw : w_X16_is post wt b0 x1 x2 h) : Mt l E yX16_is (ws_ yX16_is cX16_is 3 (some .boolean)) (rUp rm) [va_rf (some b0), va_rf x1, .int x2] h (vpi (fun (r : Int32) (h' : AH) => h' = h ∧ post r)) := v_entry (by decide +kernel) (by cases x1 <;> exact (Nat.le_of_ble_eq_true rfl)) (by cases x1 <;> exact rfl) (fun _ => e_X16_is ht hw)
end WALK
def w_Tst : Nat → (Int32 → Prop) → Nat → Option Nat → Int32 → AH → Prop
  | 0, _, _, _, _, _ => False
  | d + 1, post, a, x1, x2, h => ∃ (ci : Nat) (fs : List Value), h a = some (.inr (ci, fs)) ∧ ((ci = 14 ∧ w_X13_is post a x1 x2 h) ∨ (ci = 15 ∧ w_X14_is post a x1 x2 h) ∨ (ci = 16 ∧ w_X15_is post a x1 x2 h) ∨ (ci = 13 ∧ w_X12_is post (w_Tst d) a x1 x2 h) ∨ (ci = 17 ∧ w_X16_is post (w_Tst d) a x1 x2 h))
theorem tst_ok {l : Launch} {E : VE} : ∀ d : Nat, TstOK l E (rTst d) (w_Tst d)
  | 0 => ⟨⟨rfl, rfl⟩, fun _ _ _ _ _ hw => hw.elim⟩
  | d + 1 => by
    refine ⟨⟨rfl, rfl⟩, fun post a x1 x2 h hw => ?_⟩
    obtain ⟨ci, fs, e1, hw⟩ := hw
    refine ⟨ci, fs, e1, ?_⟩
    rcases hw with ⟨rfl, hw⟩ | ⟨rfl, hw⟩ | ⟨rfl, hw⟩ | ⟨rfl, hw⟩ | ⟨rfl, hw⟩
    · exact Or.inl ⟨rfl, (met_X13_is hw).grow (by show r_X13_is.frames ≤ d + 1 + 3; exact Nat.le_trans (by decide : r_X13_is.frames ≤ 3) (Nat.le_add_left _ _)) (by show r_X13_is.locals ≤ 40 * (d + 1) + 100; exact Nat.le_trans (by decide : r_X13_is.locals ≤ 100) (Nat.le_add_left _ _)) rfl rfl⟩
    · exact Or.inr (Or.inl ⟨rfl, (met_X14_is hw).grow (by show r_X14_is.frames ≤ d + 1 + 3; exact Nat.le_trans (by decide : r_X14_is.frames ≤ 3) (Nat.le_add_left _ _)) (by show r_X14_is.locals ≤ 40 * (d + 1) + 100; exact Nat.le_trans (by decide : r_X14_is.locals ≤ 100) (Nat.le_add_left _ _)) rfl rfl⟩)
    · exact Or.inr (Or.inr (Or.inl ⟨rfl, (met_X15_is hw).grow (by show r_X15_is.frames ≤ d + 1 + 3; exact Nat.le_trans (by decide : r_X15_is.frames ≤ 3) (Nat.le_add_left _ _)) (by show r_X15_is.locals ≤ 40 * (d + 1) + 100; exact Nat.le_trans (by decide : r_X15_is.locals ≤ 100) (Nat.le_add_left _ _)) rfl rfl⟩))
    · exact Or.inr (Or.inr (Or.inr (Or.inl ⟨rfl, (met_X12_is (tst_ok d) hw).grow (by show d + 3 + 1 ≤ d + 1 + 3; omega) (by show 40 * d + 100 + 40 ≤ 40 * (d + 1) + 100; omega) rfl rfl⟩)))
    · exact Or.inr (Or.inr (Or.inr (Or.inr (⟨rfl, (met_X16_is (tst_ok d) hw).grow (by show d + 3 + 1 ≤ d + 1 + 3; omega) (by show 40 * d + 100 + 40 ≤ 40 * (d + 1) + 100; omega) rfl rfl⟩))))
theorem v_Tst {l : Launch} {E : VE} {X : VX} {cc : ByteArray} {own nm : String} {nL : Nat} {R : Room} {ret : Option FieldType} {P : Option Value → AH → Prop} {h : AH} {k n pc : Nat} {lv : List (Nat × Value)} {post : Int32 → Prop} {idx cnt a : Nat} {x1 : Option Nat} {x2 : Int32} (q1 : Cond.methodLink own idx yTst ∈ lw_all) (hR : 200 + 3 + 1 ≤ R.frames ∧ 8123 ≤ R.locals) (rest : List Value) (hw : w_Tst 200 post a x1 x2 h) (hst : (rest.map fun v => v.category).sum ≤ 8) (d : decode cc pc = .ok (.invokeinterface idx cnt, 5)) (kk : ∀ r : Int32, post r → VV l E X cc own nm nL R ret P h k n (pc + 5) lv (.int r :: rest)) : VV l E X cc own nm nL R ret P h k n pc lv (.int x2 :: va_rf x1 :: va_rf (some a) :: rest) :=
  v_TstG (tst_ok 200) q1 ⟨hR.1, hR.2⟩ rest hw hst d kk
set_option maxRecDepth 100000
section WALK
variable {l : Launch} {E : VE} {X : VX} {b : Nat → Nat}
/-! X25_said -/
abbrev r_X25_said : Room := { frames := 4, cells := 0, slots := 0, locals := 100 }
theorem n_X25_said : vdn yX25_said 0 := ⟨by decide +kernel, by decide +kernel, by decide +kernel⟩
def w_X25_said (post : (Int32) → Prop) (b0 : Nat) (h : AH) : Prop :=
 (w_Kind (fun (z_1 : Int32) => (((nI 2) ≤ z_1 → (w_Kind (fun (z_6 : Int32) => (((nI 5) ≤ z_6 → (post (nI 6))) ∧ (¬ (nI 5) ≤ z_6 → (w_Kind (fun (z_11 : Int32) => (post z_11)) b0 h)))) b0 h)) ∧ (¬ (nI 2) ≤ z_1 → (post (nI 1))))) b0 h)
theorem e_X25_said {post : (Int32) → Prop}   {b0 : Nat} {h : AH}  (hw : w_X25_said post  b0 h) : VV l E X cX25_said RX25 "said" 1 r_X25_said (some .int) (vpi (fun (r : Int32) (h' : AH) => h' = h ∧ post r)) h 0 0 0 [(0, va_rf (some b0))] [] := by
  refine v_aload_n (q := 0) dX25_said_0 rfl rfl ?_
  refine v_Kind q1554 ⟨Nat.le_of_ble_eq_true rfl, Nat.le_of_ble_eq_true rfl⟩ [] hw (Nat.zero_le _) dX25_said_1 (fun z_1 hv => ?_)
  clear hw
  have hw := hv
  clear hv
  refine v_iconst dX25_said_6 ic_2 ?_
  obtain ⟨hw_4, hw_5⟩ := hw
  refine v_icmp_ge (tgt := 14) dX25_said_7 (by decide) (fun c_2 => ?_) (fun c_3 => ?_)
  · have hw := hw_4 c_2
    refine v_aload_n (q := 0) dX25_said_14 rfl rfl ?_
    refine v_Kind q1554 ⟨Nat.le_of_ble_eq_true rfl, Nat.le_of_ble_eq_true rfl⟩ [] hw (Nat.zero_le _) dX25_said_15 (fun z_6 hv => ?_)
    clear hw
    have hw := hv
    clear hv
    refine v_iconst dX25_said_20 ic_5 ?_
    obtain ⟨hw_9, hw_10⟩ := hw
    refine v_icmp_ge (tgt := 33) dX25_said_21 (by decide) (fun c_7 => ?_) (fun c_8 => ?_)
    · have hw := hw_9 c_7
      refine v_bipush dX25_said_33 bp_6 ?_
      exact v_iret dX25_said_35 rfl ⟨_, rfl, rfl, hw⟩
    · have hw := hw_10 c_8
      refine v_aload_n (q := 0) dX25_said_24 rfl rfl ?_
      refine v_Kind q1554 ⟨Nat.le_of_ble_eq_true rfl, Nat.le_of_ble_eq_true rfl⟩ [] hw (Nat.zero_le _) dX25_said_25 (fun z_11 hv => ?_)
      clear hw
      have hw := hv
      clear hv
      refine v_goto (tgt := 35) dX25_said_30 (by decide) ?_
      exact v_iret dX25_said_35 rfl ⟨_, rfl, rfl, hw⟩
  · have hw := hw_5 c_3
    refine v_iconst dX25_said_10 ic_1 ?_
    refine v_goto (tgt := 35) dX25_said_11 (by decide) ?_
    exact v_iret dX25_said_35 rfl ⟨_, rfl, rfl, hw⟩
theorem met_X25_said {post : (Int32) → Prop}   {b0 : Nat} {h : AH}  (hw : w_X25_said post  b0 h) : Mt l E yX25_said (ws_ yX25_said cX25_said 1 (some .int)) r_X25_said [va_rf (some b0)] h (vpi (fun (r : Int32) (h' : AH) => h' = h ∧ post r)) := v_entry (by decide +kernel) (Nat.le_of_ble_eq_true rfl) rfl (fun _ => e_X25_said hw)
end WALK
def w_Said (post : Int32 → Prop) (a : Nat) (h : AH) : Prop := ∃ (ci : Nat) (fs : List Value), h a = some (.inr (ci, fs)) ∧ ((ci = 18 ∧ w_X25_said post a h) ∨ (ci = 19 ∧ w_X25_said post a h) ∨ (ci = 20 ∧ w_X25_said post a h) ∨ (ci = 21 ∧ w_X25_said post a h) ∨ (ci = 4 ∧ w_X25_said post a h) ∨ (ci = 5 ∧ w_X25_said post a h))
set_option maxHeartbeats 4000000 in
theorem v_Said {l : Launch} {E : VE} {X : VX} {cc : ByteArray} {own nm : String} {nL : Nat} {R : Room} {ret : Option FieldType} {P : Option Value → AH → Prop} {h : AH} {k n pc : Nat} {lv : List (Nat × Value)} {post : Int32 → Prop} {idx cnt a : Nat} (q1 : Cond.methodLink own idx ySaid ∈ lw_all) (hR : 10 ≤ R.frames ∧ 300 ≤ R.locals) (rest : List Value) (hw : w_Said post a h) (hst : (rest.map fun v => v.category).sum ≤ 8) (d : decode cc pc = .ok (.invokeinterface idx cnt, 5)) (kk : ∀ r : Int32, post r → VV l E X cc own nm nL R ret P h k n (pc + 5) lv (.int r :: rest)) : VV l E X cc own nm nL R ret P h k n pc lv (va_rf (some a) :: rest) := by
  obtain ⟨ci, fs, e1, hw⟩ := hw
  rcases hw with ⟨rfl, hw⟩ | ⟨rfl, hw⟩ | ⟨rfl, hw⟩ | ⟨rfl, hw⟩ | ⟨rfl, hw⟩ | ⟨rfl, hw⟩
  · exact v_faceD (C := "NobodysBard$Had") (y := yX25_said) q1 q1550 q2167 q1552 (by decide +kernel) (ci := 18) rfl e1 n_Said ⟨Nat.le_trans (by decide) hR.1, Nat.le_trans (by decide) hR.2⟩ [] rest (met_X25_said hw) rfl hst rfl rfl d rfl kk
  · exact v_faceD (C := "NobodysBard$Moved") (y := yX25_said) q1 q1550 q2167 q1552 (by decide +kernel) (ci := 19) rfl e1 n_Said ⟨Nat.le_trans (by decide) hR.1, Nat.le_trans (by decide) hR.2⟩ [] rest (met_X25_said hw) rfl hst rfl rfl d rfl kk
  · exact v_faceD (C := "NobodysBard$Smoothed") (y := yX25_said) q1 q1550 q2167 q1552 (by decide +kernel) (ci := 20) rfl e1 n_Said ⟨Nat.le_trans (by decide) hR.1, Nat.le_trans (by decide) hR.2⟩ [] rest (met_X25_said hw) rfl hst rfl rfl d rfl kk
  · exact v_faceD (C := "NobodysBard$Borrowed") (y := yX25_said) q1 q1550 q2167 q1552 (by decide +kernel) (ci := 21) rfl e1 n_Said ⟨Nat.le_trans (by decide) hR.1, Nat.le_trans (by decide) hR.2⟩ [] rest (met_X25_said hw) rfl hst rfl rfl d rfl kk
  · exact v_faceD (C := "NobodysBard$MayBe") (y := yX25_said) q1 q1550 q2167 q1552 (by decide +kernel) (ci := 4) rfl e1 n_Said ⟨Nat.le_trans (by decide) hR.1, Nat.le_trans (by decide) hR.2⟩ [] rest (met_X25_said hw) rfl hst rfl rfl d rfl kk
  · exact v_faceD (C := "NobodysBard$Own") (y := yX25_said) q1 q1550 q2167 q1552 (by decide +kernel) (ci := 5) rfl e1 n_Said ⟨Nat.le_trans (by decide) hR.1, Nat.le_trans (by decide) hR.2⟩ [] rest (met_X25_said hw) rfl hst rfl rfl d rfl kk
