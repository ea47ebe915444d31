/-! FRAME 2: objects of several classes, default values, calls that make no cells, arraycopy, casts to an interface -/
set_option maxRecDepth 100000
def dfX0 : List Value := [va_rf none, va_rf none, va_rf none, va_rf none, va_rf none, .int 0, .int 0, .int 0, .int 0, va_rf none, va_rf none, .int 0, .int 0, .int 0, va_rf none, va_rf none, .int 0, va_rf none, .int 0, .int 0, va_rf none, va_rf none, va_rf none]
theorem dfX0_ok : ∀ j, j < 23 → defaultValue (tyX0 j) = vp_V dfX0 j := by
  intro j hj
  match j, hj with
  | 0, _ => rfl
  | 1, _ => rfl
  | 2, _ => rfl
  | 3, _ => rfl
  | 4, _ => rfl
  | 5, _ => rfl
  | 6, _ => rfl
  | 7, _ => rfl
  | 8, _ => rfl
  | 9, _ => rfl
  | 10, _ => rfl
  | 11, _ => rfl
  | 12, _ => rfl
  | 13, _ => rfl
  | 14, _ => rfl
  | 15, _ => rfl
  | 16, _ => rfl
  | 17, _ => rfl
  | 18, _ => rfl
  | 19, _ => rfl
  | 20, _ => rfl
  | 21, _ => rfl
  | 22, _ => rfl
  | j + 23, h => exact absurd h (by omega)
def dfX1 : List Value := [.int 0, .int 0, .int 0, va_rf none, va_rf none, va_rf none, va_rf none, va_rf none, va_rf none, va_rf none, va_rf none, va_rf none, va_rf none, va_rf none, .int 0, va_rf none, va_rf none]
theorem dfX1_ok : ∀ j, j < 17 → defaultValue (tyX1 j) = vp_V dfX1 j := by
  intro j hj
  match j, hj with
  | 0, _ => rfl
  | 1, _ => rfl
  | 2, _ => rfl
  | 3, _ => rfl
  | 4, _ => rfl
  | 5, _ => rfl
  | 6, _ => rfl
  | 7, _ => rfl
  | 8, _ => rfl
  | 9, _ => rfl
  | 10, _ => rfl
  | 11, _ => rfl
  | 12, _ => rfl
  | 13, _ => rfl
  | 14, _ => rfl
  | 15, _ => rfl
  | 16, _ => rfl
  | j + 17, h => exact absurd h (by omega)
def dfJ2 : List Value := [.int 0, va_rf none, .int 0]
theorem dfJ2_ok : ∀ j, j < 3 → defaultValue (tyJ2 j) = vp_V dfJ2 j := by
  intro j hj
  match j, hj with
  | 0, _ => rfl
  | 1, _ => rfl
  | 2, _ => rfl
  | j + 3, h => exact absurd h (by omega)
def dfX2 : List Value := [.int 0, .int 0, .int 0, .int 0, va_rf none]
theorem dfX2_ok : ∀ j, j < 5 → defaultValue (tyX2 j) = vp_V dfX2 j := by
  intro j hj
  match j, hj with
  | 0, _ => rfl
  | 1, _ => rfl
  | 2, _ => rfl
  | 3, _ => rfl
  | 4, _ => rfl
  | j + 5, h => exact absurd h (by omega)
def dfX3 : List Value := []
theorem dfX3_ok : ∀ j, j < 0 → defaultValue (tyX3 j) = vp_V dfX3 j := by
  intro j hj
  match j, hj with
  | j, h => exact absurd h (by omega)
def dfX4 : List Value := []
theorem dfX4_ok : ∀ j, j < 0 → defaultValue (tyX4 j) = vp_V dfX4 j := by
  intro j hj
  match j, hj with
  | j, h => exact absurd h (by omega)
def dfX5 : List Value := [va_rf none]
theorem dfX5_ok : ∀ j, j < 1 → defaultValue (tyX5 j) = vp_V dfX5 j := by
  intro j hj
  match j, hj with
  | 0, _ => rfl
  | j + 1, h => exact absurd h (by omega)
def dfX6 : List Value := [.int 0, va_rf none, va_rf none, va_rf none, va_rf none, va_rf none, va_rf none, va_rf none, va_rf none, .int 0, .int 0, .int 0, .int 0, .int 0, .int 0, .int 0, .int 0, .int 0, .int 0, .int 0, .int 0, va_rf none, va_rf none, .int 0, va_rf none, .int 0, va_rf none, va_rf none, .int 0, .int 0, .int 0, va_rf none, .int 0, .int 0, va_rf none, va_rf none, va_rf none, va_rf none]
theorem dfX6_ok : ∀ j, j < 38 → defaultValue (tyX6 j) = vp_V dfX6 j := by
  intro j hj
  match j, hj with
  | 0, _ => rfl
  | 1, _ => rfl
  | 2, _ => rfl
  | 3, _ => rfl
  | 4, _ => rfl
  | 5, _ => rfl
  | 6, _ => rfl
  | 7, _ => rfl
  | 8, _ => rfl
  | 9, _ => rfl
  | 10, _ => rfl
  | 11, _ => rfl
  | 12, _ => rfl
  | 13, _ => rfl
  | 14, _ => rfl
  | 15, _ => rfl
  | 16, _ => rfl
  | 17, _ => rfl
  | 18, _ => rfl
  | 19, _ => rfl
  | 20, _ => rfl
  | 21, _ => rfl
  | 22, _ => rfl
  | 23, _ => rfl
  | 24, _ => rfl
  | 25, _ => rfl
  | 26, _ => rfl
  | 27, _ => rfl
  | 28, _ => rfl
  | 29, _ => rfl
  | 30, _ => rfl
  | 31, _ => rfl
  | 32, _ => rfl
  | 33, _ => rfl
  | 34, _ => rfl
  | 35, _ => rfl
  | 36, _ => rfl
  | 37, _ => rfl
  | j + 38, h => exact absurd h (by omega)
def dfX7 : List Value := [.int 0, .int 0, .int 0, .int 0, va_rf none]
theorem dfX7_ok : ∀ j, j < 5 → defaultValue (tyX7 j) = vp_V dfX7 j := by
  intro j hj
  match j, hj with
  | 0, _ => rfl
  | 1, _ => rfl
  | 2, _ => rfl
  | 3, _ => rfl
  | 4, _ => rfl
  | j + 5, h => exact absurd h (by omega)
def dfX8 : List Value := [va_rf none, .int 0]
theorem dfX8_ok : ∀ j, j < 2 → defaultValue (tyX8 j) = vp_V dfX8 j := by
  intro j hj
  match j, hj with
  | 0, _ => rfl
  | 1, _ => rfl
  | j + 2, h => exact absurd h (by omega)
def dfX9 : List Value := [va_rf none, .int 0]
theorem dfX9_ok : ∀ j, j < 2 → defaultValue (tyX9 j) = vp_V dfX9 j := by
  intro j hj
  match j, hj with
  | 0, _ => rfl
  | 1, _ => rfl
  | j + 2, h => exact absurd h (by omega)
def dfX10 : List Value := [.int 0, va_rf none, va_rf none, .int 0, .int 0, .int 0, .int 0, .int 0, .int 0, .int 0, va_rf none]
theorem dfX10_ok : ∀ j, j < 11 → defaultValue (tyX10 j) = vp_V dfX10 j := by
  intro j hj
  match j, hj with
  | 0, _ => rfl
  | 1, _ => rfl
  | 2, _ => rfl
  | 3, _ => rfl
  | 4, _ => rfl
  | 5, _ => rfl
  | 6, _ => rfl
  | 7, _ => rfl
  | 8, _ => rfl
  | 9, _ => rfl
  | 10, _ => rfl
  | j + 11, h => exact absurd h (by omega)
def dfX11 : List Value := [va_rf none, va_rf none, va_rf none]
theorem dfX11_ok : ∀ j, j < 3 → defaultValue (tyX11 j) = vp_V dfX11 j := by
  intro j hj
  match j, hj with
  | 0, _ => rfl
  | 1, _ => rfl
  | 2, _ => rfl
  | j + 3, h => exact absurd h (by omega)
def dfX12 : List Value := [va_rf none]
theorem dfX12_ok : ∀ j, j < 1 → defaultValue (tyX12 j) = vp_V dfX12 j := by
  intro j hj
  match j, hj with
  | 0, _ => rfl
  | j + 1, h => exact absurd h (by omega)
def dfX13 : List Value := [.int 0]
theorem dfX13_ok : ∀ j, j < 1 → defaultValue (tyX13 j) = vp_V dfX13 j := by
  intro j hj
  match j, hj with
  | 0, _ => rfl
  | j + 1, h => exact absurd h (by omega)
def dfX14 : List Value := [.int 0]
theorem dfX14_ok : ∀ j, j < 1 → defaultValue (tyX14 j) = vp_V dfX14 j := by
  intro j hj
  match j, hj with
  | 0, _ => rfl
  | j + 1, h => exact absurd h (by omega)
def dfX15 : List Value := [.int 0]
theorem dfX15_ok : ∀ j, j < 1 → defaultValue (tyX15 j) = vp_V dfX15 j := by
  intro j hj
  match j, hj with
  | 0, _ => rfl
  | j + 1, h => exact absurd h (by omega)
def dfX16 : List Value := [.int 0, va_rf none, va_rf none]
theorem dfX16_ok : ∀ j, j < 3 → defaultValue (tyX16 j) = vp_V dfX16 j := by
  intro j hj
  match j, hj with
  | 0, _ => rfl
  | 1, _ => rfl
  | 2, _ => rfl
  | j + 3, h => exact absurd h (by omega)
def dfX18 : List Value := [.int 0]
theorem dfX18_ok : ∀ j, j < 1 → defaultValue (tyX18 j) = vp_V dfX18 j := by
  intro j hj
  match j, hj with
  | 0, _ => rfl
  | j + 1, h => exact absurd h (by omega)
def dfX19 : List Value := [.int 0]
theorem dfX19_ok : ∀ j, j < 1 → defaultValue (tyX19 j) = vp_V dfX19 j := by
  intro j hj
  match j, hj with
  | 0, _ => rfl
  | j + 1, h => exact absurd h (by omega)
def dfX20 : List Value := [.int 0]
theorem dfX20_ok : ∀ j, j < 1 → defaultValue (tyX20 j) = vp_V dfX20 j := by
  intro j hj
  match j, hj with
  | 0, _ => rfl
  | j + 1, h => exact absurd h (by omega)
def dfX21 : List Value := [.int 0]
theorem dfX21_ok : ∀ j, j < 1 → defaultValue (tyX21 j) = vp_V dfX21 j := by
  intro j hj
  match j, hj with
  | 0, _ => rfl
  | j + 1, h => exact absurd h (by omega)
def dfX22 : List Value := [va_rf none, va_rf none, .int 0, .int 0]
theorem dfX22_ok : ∀ j, j < 4 → defaultValue (tyX22 j) = vp_V dfX22 j := by
  intro j hj
  match j, hj with
  | 0, _ => rfl
  | 1, _ => rfl
  | 2, _ => rfl
  | 3, _ => rfl
  | j + 4, h => exact absurd h (by omega)
def dfX23 : List Value := [.int 0, .int 0, .int 0, .int 0, .int 0, va_rf none]
theorem dfX23_ok : ∀ j, j < 6 → defaultValue (tyX23 j) = vp_V dfX23 j := by
  intro j hj
  match j, hj with
  | 0, _ => rfl
  | 1, _ => rfl
  | 2, _ => rfl
  | 3, _ => rfl
  | 4, _ => rfl
  | 5, _ => rfl
  | j + 6, h => exact absurd h (by omega)
def dfX24 : List Value := [.int 0, .int 0]
theorem dfX24_ok : ∀ j, j < 2 → defaultValue (tyX24 j) = vp_V dfX24 j := by
  intro j hj
  match j, hj with
  | 0, _ => rfl
  | 1, _ => rfl
  | j + 2, h => exact absurd h (by omega)
def dfJ14 : List Value := [va_rf none, va_rf none, va_rf none, va_rf none, .int 0, va_rf none]
theorem dfJ14_ok : ∀ j, j < 6 → defaultValue (tyJ14 j) = vp_V dfJ14 j := by
  intro j hj
  match j, hj with
  | 0, _ => rfl
  | 1, _ => rfl
  | 2, _ => rfl
  | 3, _ => rfl
  | 4, _ => rfl
  | 5, _ => rfl
  | j + 6, h => exact absurd h (by omega)
def dfJ15 : List Value := [va_rf none, va_rf none, va_rf none, va_rf none, .int 0, va_rf none, .int 0, va_rf none]
theorem dfJ15_ok : ∀ j, j < 8 → defaultValue (tyJ15 j) = vp_V dfJ15 j := by
  intro j hj
  match j, hj with
  | 0, _ => rfl
  | 1, _ => rfl
  | 2, _ => rfl
  | 3, _ => rfl
  | 4, _ => rfl
  | 5, _ => rfl
  | 6, _ => rfl
  | 7, _ => rfl
  | j + 8, h => exact absurd h (by omega)
def dfJ17 : List Value := [va_rf none, va_rf none, va_rf none, va_rf none, .int 0, va_rf none]
theorem dfJ17_ok : ∀ j, j < 6 → defaultValue (tyJ17 j) = vp_V dfJ17 j := by
  intro j hj
  match j, hj with
  | 0, _ => rfl
  | 1, _ => rfl
  | 2, _ => rfl
  | 3, _ => rfl
  | 4, _ => rfl
  | 5, _ => rfl
  | j + 6, h => exact absurd h (by omega)
/-- classes whose objects may lie in an Object[] -/
def vobj (ci : Nat) : Bool := [0, 1, 2, 3, 4, 5, 6, 7, 8, 9, 10, 11, 12, 13, 14, 15, 16, 17, 18, 19, 20, 21, 22, 23, 24, 25, 26, 27].contains ci
theorem vobj_ok {ci : Nat} (h : vobj ci = true) : ∃ (C : String) (T : u_T) (N : Nat), vcl[ci]? = some (C, T, N) ∧ Cond.castable C "java/lang/Object" ∈ lw_tbl := by
  have hm : ci ∈ [0, 1, 2, 3, 4, 5, 6, 7, 8, 9, 10, 11, 12, 13, 14, 15, 16, 17, 18, 19, 20, 21, 22, 23, 24, 25, 26, 27] := by simpa [vobj] using h
  simp only [List.mem_cons, List.not_mem_nil, or_false] at hm
  rcases hm with rfl | rfl | rfl | rfl | rfl | rfl | rfl | rfl | rfl | rfl | rfl | rfl | rfl | rfl | rfl | rfl | rfl | rfl | rfl | rfl | rfl | rfl | rfl | rfl | rfl | rfl | rfl | rfl
  · exact ⟨_, _, _, rfl, q2171⟩
  · exact ⟨_, _, _, rfl, q2168⟩
  · exact ⟨_, _, _, rfl, q2172⟩
  · exact ⟨_, _, _, rfl, q2173⟩
  · exact ⟨_, _, _, rfl, q2174⟩
  · exact ⟨_, _, _, rfl, q2175⟩
  · exact ⟨_, _, _, rfl, q2170⟩
  · exact ⟨_, _, _, rfl, q2176⟩
  · exact ⟨_, _, _, rfl, q2177⟩
  · exact ⟨_, _, _, rfl, q2169⟩
  · exact ⟨_, _, _, rfl, q2178⟩
  · exact ⟨_, _, _, rfl, q2179⟩
  · exact ⟨_, _, _, rfl, q2180⟩
  · exact ⟨_, _, _, rfl, q2181⟩
  · exact ⟨_, _, _, rfl, q2182⟩
  · exact ⟨_, _, _, rfl, q2183⟩
  · exact ⟨_, _, _, rfl, q2184⟩
  · exact ⟨_, _, _, rfl, q2185⟩
  · exact ⟨_, _, _, rfl, q2186⟩
  · exact ⟨_, _, _, rfl, q2187⟩
  · exact ⟨_, _, _, rfl, q2188⟩
  · exact ⟨_, _, _, rfl, q2189⟩
  · exact ⟨_, _, _, rfl, q2190⟩
  · exact ⟨_, _, _, rfl, q2191⟩
  · exact ⟨_, _, _, rfl, q2192⟩
  · exact ⟨_, _, _, rfl, q2193⟩
  · exact ⟨_, _, _, rfl, q2194⟩
  · exact ⟨_, _, _, rfl, q2195⟩
def vtst (ci : Nat) : Bool := [13, 14, 15, 16, 17].contains ci
theorem vtst_ok {ci : Nat} (h : vtst ci = true) : ∃ (C : String) (T : u_T) (N : Nat), vcl[ci]? = some (C, T, N) ∧ Cond.castable C "NobodysBard$Test" ∈ lw_tbl := by
  have hm : ci ∈ [13, 14, 15, 16, 17] := by simpa [vtst] using h
  simp only [List.mem_cons, List.not_mem_nil, or_false] at hm
  rcases hm with rfl | rfl | rfl | rfl | rfl
  · exact ⟨_, _, _, rfl, q952⟩
  · exact ⟨_, _, _, rfl, q942⟩
  · exact ⟨_, _, _, rfl, q928⟩
  · exact ⟨_, _, _, rfl, q960⟩
  · exact ⟨_, _, _, rfl, q934⟩
def vnown (ci : Nat) : Bool := [18, 19, 20, 21, 4].contains ci
theorem vnown_ok {ci : Nat} (h : vnown ci = true) : ∃ (C : String) (T : u_T) (N : Nat), vcl[ci]? = some (C, T, N) ∧ (C, "NobodysBard$Own") ∈ vncs := by
  have hm : ci ∈ [18, 19, 20, 21, 4] := by simpa [vnown] using h
  simp only [List.mem_cons, List.not_mem_nil, or_false] at hm
  rcases hm with rfl | rfl | rfl | rfl | rfl
  · exact ⟨_, _, _, rfl, by decide +kernel⟩
  · exact ⟨_, _, _, rfl, by decide +kernel⟩
  · exact ⟨_, _, _, rfl, by decide +kernel⟩
  · exact ⟨_, _, _, rfl, by decide +kernel⟩
  · exact ⟨_, _, _, rfl, by decide +kernel⟩
section XFR
variable {l : Launch} {E : VE} {X : VX} {cc : ByteArray} {own nm : String} {nL : Nat} {R : Room} {ret : Option FieldType} {P : Option Value → AH → Prop} {h : AH} {k n pc : Nat} {lv : List (Nat × Value)} {st : List Value}
theorem v_callSN {y : MethodName} {b : ByteArray} {L na : Nat} {rt : Option FieldType} {rm : Room} {P1 : Option Value → AH → Prop} {idx : Nat}  {host : String} (q1 : Cond.methodLinkNest own idx y host ∈ lw_tbl) (q2 : Cond.static y ∈ lw_all) (q3 : Cond.initialized y.cls ∈ lw_all) (q4 : Cond.code y b L rt ∈ lw_all) (hdn : vdn y na) (hR : rm.frames + 1 ≤ R.frames ∧ 8 + (L + 11) + rm.locals ≤ R.locals) (av rest : List Value) (hM : Mt l E y (ws_ y b L rt) rm av h P1) (hna : av.length = na) (hst : (rest.map fun v => v.category).sum ≤ 8) (hf : k + rm.cells ≤ R.cells ∧ n + rm.slots ≤ R.slots) (d : decode cc pc = .ok (.invokestatic idx, 3)) (hst0 : st = av.reverse ++ rest) (kk : ∀ (v : Option Value) (h' : AH), P1 v h' → VV l E X cc own nm nL R ret P h' (k + rm.cells) (n + rm.slots) (pc + 3) lv (v.toList ++ rest)) : VV l E X cc own nm nL R ret P h k n pc lv st := by
  subst hst0
  obtain ⟨p, e, s, m, args, below, meth, c, A⟩ := X
  intro ok H locs ls hp hd hS hk hn hl
  obtain ⟨hx, hb, hr, hml, hown, hnm, hlk, hts, hK, hE, hA⟩ := id ok
  refine v_run (rm := rm) hd hS hA (va_runSN (As := av) (rest := rest) ⟨hx, hb, hml, hown, hts⟩ (hM H.size) ⟨va_cnB na hts (lw_meth q4) rfl rfl rfl (hE.1.2.1 _ _ _ _ q1) (hts _ q3) hdn hR, hts _ q2, True.intro⟩ ⟨vPc_blind, vPc_pre hp hK hE hd hS hA⟩ rfl hna hl.1 rfl (lv_room hst) d hf) (fun v h1 H1 locs1 q1 q2 q3 q4 => kk v h1 q1 ok H1 locs1 ls q2 q3 q4 hf.1 hf.2 hl)
theorem v_callS0 {y : MethodName} {b : ByteArray} {L na : Nat} {rt : Option FieldType} {rm : Room} {P1 : Option Value → AH → Prop} {idx : Nat}  (q1 : Cond.methodLink own idx y ∈ lw_all) (q2 : Cond.static y ∈ lw_all) (q3 : Cond.initialized y.cls ∈ lw_all) (q4 : Cond.code y b L rt ∈ lw_all) (hdn : vdn y na) (hR : rm.frames + 1 ≤ R.frames ∧ 8 + (L + 11) + rm.locals ≤ R.locals) (av rest : List Value) (hM : Mt l E y (ws_ y b L rt) rm av h P1) (hna : av.length = na) (hst : (rest.map fun v => v.category).sum ≤ 8) (hc0 : rm.cells = 0) (hs0 : rm.slots = 0) (d : decode cc pc = .ok (.invokestatic idx, 3)) (hst0 : st = av.reverse ++ rest) (kk : ∀ (v : Option Value) (h' : AH), P1 v h' → VV l E X cc own nm nL R ret P h' k n (pc + 3) lv (v.toList ++ rest)) : VV l E X cc own nm nL R ret P h k n pc lv st := by
  obtain ⟨p, e, s, m, args, below, meth, c, A⟩ := X
  intro ok H locs ls hp hd hS hk hn hl
  exact v_callS q1 q2 q3 q4 hdn hR av rest hM hna hst ⟨by rw [hc0]; exact hk, by rw [hs0]; exact hn⟩ d hst0 (fun v h1 q => by rw [hc0, hs0]; exact kk v h1 q) ok H locs ls hp hd hS hk hn hl
theorem v_callV0 {y : MethodName} {b : ByteArray} {L na : Nat} {rt : Option FieldType} {rm : Room} {P1 : Option Value → AH → Prop} {idx : Nat} {ci N ra : Nat} {T : u_T} {fs : List Value}  (q1 : Cond.methodLink own idx y ∈ lw_all) (q2 : Cond.instanceMethod y ∈ lw_all) (q3 : Cond.selects y.cls y y ∈ lw_all) (q4 : Cond.initialized y.cls ∈ lw_all) (q5 : Cond.code y b L rt ∈ lw_all) (hc : vcl[ci]? = some (y.cls, T, N)) (hra : h ra = some (.inr (ci, fs))) (hdn : vdn y na) (hR : rm.frames + 1 ≤ R.frames ∧ 8 + (L + 11) + rm.locals ≤ R.locals) (av rest : List Value) (hM : Mt l E y (ws_ y b L rt) rm (va_rf (some ra) :: av) h P1) (hna : av.length = na) (hst : (rest.map fun v => v.category).sum ≤ 8) (hc0 : rm.cells = 0) (hs0 : rm.slots = 0) (d : decode cc pc = .ok (.invokevirtual idx, 3)) (hst0 : st = av.reverse ++ (va_rf (some ra) :: rest)) (kk : ∀ (v : Option Value) (h' : AH), P1 v h' → VV l E X cc own nm nL R ret P h' k n (pc + 3) lv (v.toList ++ rest)) : VV l E X cc own nm nL R ret P h k n pc lv st := by
  obtain ⟨p, e, s, m, args, below, meth, c, A⟩ := X
  intro ok H locs ls hp hd hS hk hn hl
  exact v_callV q1 q2 q3 q4 q5 hc hra hdn hR av rest hM hna hst ⟨by rw [hc0]; exact hk, by rw [hs0]; exact hn⟩ d hst0 (fun v h1 q => by rw [hc0, hs0]; exact kk v h1 q) ok H locs ls hp hd hS hk hn hl
theorem v_callI0 {y : MethodName} {b : ByteArray} {L na : Nat} {rm : Room} {P1 : Option Value → AH → Prop} {idx : Nat} {ra : Nat} (q1 : Cond.methodLink own idx y ∈ lw_all) (q2 : Cond.instanceMethod y ∈ lw_all) (q3 : Cond.initialized y.cls ∈ lw_all) (q4 : Cond.code y b L none ∈ lw_all) (hy1 : y.name = "<init>") (hdn : vdn y na) (hR : rm.frames + 1 ≤ R.frames ∧ 8 + (L + 11) + rm.locals ≤ R.locals) (av rest : List Value) (hM : Mt l E y (ws_ y b L none) rm (va_rf (some ra) :: av) h P1) (hna : av.length = na) (hst : (rest.map fun v => v.category).sum ≤ 8) (hc0 : rm.cells = 0) (hs0 : rm.slots = 0) (d : decode cc pc = .ok (.invokespecial idx, 3)) (hst0 : st = av.reverse ++ (va_rf (some ra) :: rest)) (kk : ∀ (v : Option Value) (h' : AH), P1 v h' → VV l E X cc own nm nL R ret P h' k n (pc + 3) lv (v.toList ++ rest)) : VV l E X cc own nm nL R ret P h k n pc lv st := by
  obtain ⟨p, e, s, m, args, below, meth, c, A⟩ := X
  intro ok H locs ls hp hd hS hk hn hl
  exact v_callI q1 q2 q3 q4 hy1 hdn hR av rest hM hna hst ⟨by rw [hc0]; exact hk, by rw [hs0]; exact hn⟩ d hst0 (fun v h1 q => by rw [hc0, hs0]; exact kk v h1 q) ok H locs ls hp hd hS hk hn hl
theorem v_callStr0 {y : MethodName} {b : ByteArray} {L na : Nat} {rt : Option FieldType} {rm : Room} {P1 : Option Value → AH → Prop} {idx : Nat} {i : Nat} (hi : i < 14) (q1 : Cond.methodLink own idx y ∈ lw_all) (q2 : Cond.instanceMethod y ∈ lw_all) (q3 : Cond.selects y.cls y y ∈ lw_all) (q4 : Cond.initialized y.cls ∈ lw_all) (q5 : Cond.code y b L rt ∈ lw_all) (hyc : y.cls = "java/lang/String") (hdn : vdn y na) (hR : rm.frames + 1 ≤ R.frames ∧ 8 + (L + 11) + rm.locals ≤ R.locals) (av rest : List Value) (hM : Mt l E y (ws_ y b L rt) rm (va_rf (some (E.2.2.1 i)) :: av) h P1) (hna : av.length = na) (hst : (rest.map fun v => v.category).sum ≤ 8) (hc0 : rm.cells = 0) (hs0 : rm.slots = 0) (d : decode cc pc = .ok (.invokevirtual idx, 3)) (hst0 : st = av.reverse ++ (va_rf (some (E.2.2.1 i)) :: rest)) (kk : ∀ (v : Option Value) (h' : AH), P1 v h' → VV l E X cc own nm nL R ret P h' k n (pc + 3) lv (v.toList ++ rest)) : VV l E X cc own nm nL R ret P h k n pc lv st := by
  obtain ⟨p, e, s, m, args, below, meth, c, A⟩ := X
  intro ok H locs ls hp hd hS hk hn hl
  exact v_callStr hi q1 q2 q3 q4 q5 hyc hdn hR av rest hM hna hst ⟨by rw [hc0]; exact hk, by rw [hs0]; exact hn⟩ d hst0 (fun v h1 q => by rw [hc0, hs0]; exact kk v h1 q) ok H locs ls hp hd hS hk hn hl
theorem v_callVN0 {y : MethodName} {b : ByteArray} {L na : Nat} {rt : Option FieldType} {rm : Room} {P1 : Option Value → AH → Prop} {idx : Nat} {ci N ra : Nat} {T : u_T} {fs : List Value} {host : String} (q1 : Cond.methodLinkNest own idx y host ∈ lw_tbl) (q2 : Cond.instanceMethod y ∈ lw_all) (q5 : Cond.selects y.cls y y ∈ lw_all) (q3 : Cond.initialized y.cls ∈ lw_all) (q4 : Cond.code y b L rt ∈ lw_all) (hc : vcl[ci]? = some (y.cls, T, N)) (hra : h ra = some (.inr (ci, fs))) (hdn : vdn y na) (hR : rm.frames + 1 ≤ R.frames ∧ 8 + (L + 11) + rm.locals ≤ R.locals) (av rest : List Value) (hM : Mt l E y (ws_ y b L rt) rm (va_rf (some ra) :: av) h P1) (hna : av.length = na) (hst : (rest.map fun v => v.category).sum ≤ 8) (hc0 : rm.cells = 0) (hs0 : rm.slots = 0) (d : decode cc pc = .ok (.invokevirtual idx, 3)) (hst0 : st = av.reverse ++ (va_rf (some ra) :: rest)) (kk : ∀ (v : Option Value) (h' : AH), P1 v h' → VV l E X cc own nm nL R ret P h' k n (pc + 3) lv (v.toList ++ rest)) : VV l E X cc own nm nL R ret P h k n pc lv st := by
  obtain ⟨p, e, s, m, args, below, meth, c, A⟩ := X
  intro ok H locs ls hp hd hS hk hn hl
  exact v_callVN q1 q2 q5 q3 q4 hc hra hdn hR av rest hM hna hst ⟨by rw [hc0]; exact hk, by rw [hs0]; exact hn⟩ d hst0 (fun v h1 q => by rw [hc0, hs0]; exact kk v h1 q) ok H locs ls hp hd hS hk hn hl
theorem v_callIN0 {y : MethodName} {b : ByteArray} {L na : Nat} {rm : Room} {P1 : Option Value → AH → Prop} {idx : Nat} {ra : Nat} {host : String} (q1 : Cond.methodLinkNest own idx y host ∈ lw_tbl) (q2 : Cond.instanceMethod y ∈ lw_all) (q3 : Cond.initialized y.cls ∈ lw_all) (q4 : Cond.code y b L none ∈ lw_all) (hy1 : y.name = "<init>") (hdn : vdn y na) (hR : rm.frames + 1 ≤ R.frames ∧ 8 + (L + 11) + rm.locals ≤ R.locals) (av rest : List Value) (hM : Mt l E y (ws_ y b L none) rm (va_rf (some ra) :: av) h P1) (hna : av.length = na) (hst : (rest.map fun v => v.category).sum ≤ 8) (hc0 : rm.cells = 0) (hs0 : rm.slots = 0) (d : decode cc pc = .ok (.invokespecial idx, 3)) (hst0 : st = av.reverse ++ (va_rf (some ra) :: rest)) (kk : ∀ (v : Option Value) (h' : AH), P1 v h' → VV l E X cc own nm nL R ret P h' k n (pc + 3) lv (v.toList ++ rest)) : VV l E X cc own nm nL R ret P h k n pc lv st := by
  obtain ⟨p, e, s, m, args, below, meth, c, A⟩ := X
  intro ok H locs ls hp hd hS hk hn hl
  exact v_callIN q1 q2 q3 q4 hy1 hdn hR av rest hM hna hst ⟨by rw [hc0]; exact hk, by rw [hs0]; exact hn⟩ d hst0 (fun v h1 q => by rw [hc0, hs0]; exact kk v h1 q) ok H locs ls hp hd hS hk hn hl
theorem v_callSN0 {y : MethodName} {b : ByteArray} {L na : Nat} {rt : Option FieldType} {rm : Room} {P1 : Option Value → AH → Prop} {idx : Nat}  {host : String} (q1 : Cond.methodLinkNest own idx y host ∈ lw_tbl) (q2 : Cond.static y ∈ lw_all) (q3 : Cond.initialized y.cls ∈ lw_all) (q4 : Cond.code y b L rt ∈ lw_all) (hdn : vdn y na) (hR : rm.frames + 1 ≤ R.frames ∧ 8 + (L + 11) + rm.locals ≤ R.locals) (av rest : List Value) (hM : Mt l E y (ws_ y b L rt) rm av h P1) (hna : av.length = na) (hst : (rest.map fun v => v.category).sum ≤ 8) (hc0 : rm.cells = 0) (hs0 : rm.slots = 0) (d : decode cc pc = .ok (.invokestatic idx, 3)) (hst0 : st = av.reverse ++ rest) (kk : ∀ (v : Option Value) (h' : AH), P1 v h' → VV l E X cc own nm nL R ret P h' k n (pc + 3) lv (v.toList ++ rest)) : VV l E X cc own nm nL R ret P h k n pc lv st := by
  obtain ⟨p, e, s, m, args, below, meth, c, A⟩ := X
  intro ok H locs ls hp hd hS hk hn hl
  exact v_callSN q1 q2 q3 q4 hdn hR av rest hM hna hst ⟨by rw [hc0]; exact hk, by rw [hs0]; exact hn⟩ d hst0 (fun v h1 q => by rw [hc0, hs0]; exact kk v h1 q) ok H locs ls hp hd hS hk hn hl
theorem v_aastOg {a b N1 ci : Nat} {i : Int32} {g : Nat → Option Nat} {fs : List Value} (hv : vobj ci = true) (d : decode cc pc = .ok (.aastore, 1)) (ha : h a = some (.inl (5, N1, .inr (.inr (.inr (.inr g)))))) (hi : vp_in i N1) (hvb : h b = some (.inr (ci, fs))) (kk : VV l E X cc own nm nL R ret P (va_up h a (some (.inl (5, N1, .inr (.inr (.inr (.inr (va_up g i.toNatClampNeg (some b))))))))) k n (pc + 1) lv st) : VV l E X cc own nm nL R ret P h k n pc lv (va_rf (some b) :: .int i :: va_rf (some a) :: st) := by
  obtain ⟨C, T, N, h1, h2⟩ := vobj_ok hv
  exact v_aastO h1 h2 d ha hi hvb kk
theorem v_castI {a ci idx : Nat} {fs : List Value} (hq1 : Cond.classLink own idx "NobodysBard$Test" ∈ lw_all) (hv : vtst ci = true) (d : decode cc pc = .ok (.checkcast idx, 3)) (ha : h a = some (.inr (ci, fs))) (kk : VV l E X cc own nm nL R ret P h k n (pc + 3) lv (va_rf (some a) :: st)) : VV l E X cc own nm nL R ret P h k n pc lv (va_rf (some a) :: st) := by
  obtain ⟨C, T, N, h1, h2⟩ := vtst_ok hv
  exact v_castY h1 hq1 h2 d ha kk
theorem v_mmax {idx : Nat} {x y : Int32} (q1 : Cond.methodLink own idx Lib.Math.max.name ∈ lw_all) (q2 : Cond.static Lib.Math.max.name ∈ lw_all) (q3 : Cond.initialized "java/lang/Math" ∈ lw_all) (q4 : Cond.code Lib.Math.max.name Lib.Math.max.code 2 (some .int) ∈ lw_all) (hst : (st.map fun v => v.category).sum ≤ 8) (hR1 : 1 ≤ R.frames) (hR2 : 25 ≤ R.locals) (d : decode cc pc = .ok (.invokestatic idx, 3)) (kk : VV l E X cc own nm nL R ret P h k n (pc + 3) lv (.int (if x < y then y else x) :: st)) : VV l E X cc own nm nL R ret P h k n pc lv (.int y :: .int x :: st) := by
  obtain ⟨p, e, s, m, args, below, meth, c, A⟩ := X
  intro ok H locs ls hp hd hS hk hn hl
  obtain ⟨hx, hb, hr, hml, hown, hnm, hlk, hts, hK, hE, hA⟩ := id ok
  exact va_mmax hx hb (hml.trans hl.1.symm) hown (hts _ q1) (hts _ q2) (hts _ q3) (hts _ q4) hR1 (Nat.le_trans (Nat.add_le_add_right hst _) (Nat.le_trans (by decide) hR2)) hk hn d (kk ok H locs ls hp hd hS hk hn hl)
theorem v_ldcw {idx : Nat} {v : Int32} (d : decode cc pc = .ok (.ldc_w idx, 3)) (hq : Cond.constant own idx v ∈ lw_all) (kk : VV l E X cc own nm nL R ret P h k n (pc + 3) lv (.int v :: st)) : VV l E X cc own nm nL R ret P h k n pc lv st := by
  obtain ⟨p, e, s, m, args, below, meth, c, A⟩ := X
  intro ok H locs ls hp hd hS hk hn hl
  obtain ⟨hx, hb, hr, hml, hown, hnm, hlk, hts, hK, hE, hA⟩ := id ok
  exact lv_ldcw hx hb hown (hts _ hq) d (kk ok H locs ls hp hd hS hk hn hl)
theorem v_instNoOwn {a ci idx : Nat} {fs : List Value} (hv : vnown ci = true) (hq1 : Cond.classLink own idx "NobodysBard$Own" ∈ lw_all) (d : decode cc pc = .ok (.instanceof idx, 3)) (ha : h a = some (.inr (ci, fs))) (kk : VV l E X cc own nm nL R ret P h k n (pc + 3) lv (.int 0 :: st)) : VV l E X cc own nm nL R ret P h k n pc lv (va_rf (some a) :: st) := by
  obtain ⟨C, T, N, h1, h2⟩ := vnown_ok hv
  exact v_instNo h1 hq1 h2 d ha kk
theorem v_copyI {a a0 N0 N1 idx : Nat} {sp dp x : Int32} {g0 g1 : Nat → Int32} (q1 : Cond.methodLink own idx arraycopyName ∈ lw_all) (q2 : Cond.native arraycopyName ∈ lw_all) (q3 : Cond.static arraycopyName ∈ lw_all) (q4 : Cond.initialized "java/lang/System" ∈ lw_all) (hst : (st.map fun v => v.category).sum ≤ 8) (hR1 : 1 ≤ R.frames) (hR2 : 40 ≤ R.locals) (d : decode cc pc = .ok (.invokestatic idx, 3)) (h0 : h a0 = some (.inl (0, N0, .inl g0))) (h1 : h a = some (.inl (0, N1, .inl g1))) (hc : ¬ sp < 0 ∧ ¬ dp < 0 ∧ ¬ x < 0 ∧ sp.toNatClampNeg + x.toNatClampNeg ≤ N0 ∧ dp.toNatClampNeg + x.toNatClampNeg ≤ N1) (kk : VV l E X cc own nm nL R ret P (va_up h a (some (.inl (0, N1, .inl (va_cpy g0 g1 sp.toNatClampNeg dp.toNatClampNeg x.toNatClampNeg))))) k n (pc + 3) lv st) : VV l E X cc own nm nL R ret P h k n pc lv (.int x :: .int dp :: va_rf (some a) :: .int sp :: va_rf (some a0) :: st) := by
  obtain ⟨p, e, s, m, args, below, meth, c, A⟩ := X
  intro ok H locs ls hp hd hS hk hn hl
  obtain ⟨hx, hb, hr, hml, hown, hnm, hlk, hts, hK, hE, hA⟩ := id ok
  obtain ⟨k0, hk0⟩ := wl_at (G := E.2.1) (hp.lt h0) h0
  obtain ⟨k1, hk1⟩ := wl_at (G := E.2.1) (hp.lt h1) h1
  exact va_copyi (D := E.1) (ty := .int) hx hb (hml.trans hl.1.symm) hown (hts _ q1) (hts _ q2) (hts _ q3) (hts _ q4) hK (wl_P (n := H.size) hp) (wl_D (n := H.size) hd) hS k0 k1 0 0 hk0 hk1 rfl rfl rfl hc.1 hc.2.1 hc.2.2.1 hc.2.2.2.1 hc.2.2.2.2 (fun _ _ => rfl) hR1 (Nat.le_trans (Nat.add_le_add_right hst _) (Nat.le_trans (by decide) hR2)) d (fun H1 locs1 hP1 hD1 hS1 => kk ok H1 locs1 ls (vset (e := .inl (0, N1, .inl (va_cpy g0 g1 sp.toNatClampNeg dp.toNatClampNeg x.toNatClampNeg))) hp hk1 hP1) (vdom hd (hd a (by rw [h1]; exact Option.some_ne_none _))) hS1 hk hn hl)
theorem v_copyO {a a0 N0 N1 idx : Nat} {sp dp x : Int32} {g0 g1 : Nat → Option Nat} (q1 : Cond.methodLink own idx arraycopyName ∈ lw_all) (q2 : Cond.native arraycopyName ∈ lw_all) (q3 : Cond.static arraycopyName ∈ lw_all) (q4 : Cond.initialized "java/lang/System" ∈ lw_all) (hst : (st.map fun v => v.category).sum ≤ 8) (hR1 : 1 ≤ R.frames) (hR2 : 40 ≤ R.locals) (d : decode cc pc = .ok (.invokestatic idx, 3)) (h0 : h a0 = some (.inl (5, N0, .inr (.inr (.inr (.inr g0)))))) (h1 : h a = some (.inl (5, N1, .inr (.inr (.inr (.inr g1)))))) (hc : ¬ sp < 0 ∧ ¬ dp < 0 ∧ ¬ x < 0 ∧ sp.toNatClampNeg + x.toNatClampNeg ≤ N0 ∧ dp.toNatClampNeg + x.toNatClampNeg ≤ N1 ∧ ∀ i : Nat, i < x.toNatClampNeg → ∀ y : Nat, g0 (sp.toNatClampNeg + i) = some y → ∃ (ci : Nat) (fs : List Value), vobj ci = true ∧ h y = some (.inr (ci, fs))) (kk : VV l E X cc own nm nL R ret P (va_up h a (some (.inl (5, N1, .inr (.inr (.inr (.inr (va_cpy g0 g1 sp.toNatClampNeg dp.toNatClampNeg x.toNatClampNeg)))))))) k n (pc + 3) lv st) : VV l E X cc own nm nL R ret P h k n pc lv (.int x :: .int dp :: va_rf (some a) :: .int sp :: va_rf (some a0) :: st) := by
  obtain ⟨p, e, s, m, args, below, meth, c, A⟩ := X
  intro ok H locs ls hp hd hS hk hn hl
  obtain ⟨hx, hb, hr, hml, hown, hnm, hlk, hts, hK, hE, hA⟩ := id ok
  obtain ⟨k0, hk0⟩ := wl_at (G := E.2.1) (hp.lt h0) h0
  obtain ⟨k1, hk1⟩ := wl_at (G := E.2.1) (hp.lt h1) h1
  refine va_copyM (D := E.1) (E0 := "java/lang/Object") (E1 := "java/lang/Object") hx hb (hml.trans hl.1.symm) hown (hts _ q1) (hts _ q2) (hts _ q3) (hts _ q4) hK (wl_P (n := H.size) hp) (wl_D (n := H.size) hd) hS k0 k1 5 5 hk0 hk1 rfl rfl hc.1 hc.2.1 hc.2.2.1 hc.2.2.2.1 hc.2.2.2.2.1 (fun i hi y hy => ?_) hR1 (Nat.le_trans (Nat.add_le_add_right hst _) (Nat.le_trans (by decide) hR2)) d (fun H1 locs1 hP1 hD1 hS1 => kk ok H1 locs1 ls (vset (e := .inl (5, N1, .inr (.inr (.inr (.inr (va_cpy g0 g1 sp.toNatClampNeg dp.toNatClampNeg x.toNatClampNeg)))))) hp hk1 hP1) (vdom hd (hd a (by rw [h1]; exact Option.some_ne_none _))) hS1 hk hn hl)
  obtain ⟨ci, fs, e1, e2⟩ := hc.2.2.2.2.2 i hi y hy
  obtain ⟨C, T, N, e3, e4⟩ := vobj_ok e1
  obtain ⟨k2, hk2⟩ := wl_at (G := E.2.1) (hp.lt e2) e2
  exact va_rAny hK (wl_P (n := H.size) hp) hk2 e3 (v_asg (hE.1.2.2.1 _ _ e4))
end XFR
theorem hr_mono {s : State} {pl : Platform} {r r1 : Room} (h : s.hasRoom pl r1 = true) (h1 : r.frames ≤ r1.frames) (h2 : r.locals ≤ r1.locals) (h3 : r.cells ≤ r1.cells) (h4 : r.slots ≤ r1.slots) : s.hasRoom pl r = true := by
  unfold State.hasRoom at h ⊢
  simp only [Bool.and_eq_true, decide_eq_true_eq] at h ⊢
  obtain ⟨⟨⟨⟨k1, ⟨a1, a2, a3, a4, a5⟩⟩, k3⟩, k4⟩, k5⟩ := h
  exact ⟨⟨⟨⟨Nat.le_trans (Nat.add_le_add_right (Nat.add_le_add_left h2 _) _) k1, ⟨Nat.le_trans (Nat.add_le_add_left h1 _) a1, Nat.le_trans (Nat.add_le_add_left h1 _) a2, Nat.le_trans (Nat.add_le_add_left h2 _) a3, Nat.le_trans (Nat.add_le_add_left h2 _) a4, a5⟩⟩, Nat.le_trans (Nat.add_le_add_left h3 _) k3⟩, Nat.le_trans (Nat.add_le_add_left h4 _) k4⟩, k5⟩
/-- more room is room -/
theorem Mt.grow {l : Launch} {E : VE} {y : MethodName} {ws : List Cond} {rm rm1 : Room} {av : List Value} {h : AH} {P : Option Value → AH → Prop} (hM : Mt l E y ws rm av h P) (h1 : rm.frames ≤ rm1.frames) (h2 : rm.locals ≤ rm1.locals) (h3 : rm1.cells = rm.cells) (h4 : rm1.slots = rm.slots) : Mt l E y ws rm1 av h P := by
  intro sz
  have hM := hM sz
  rw [h3, h4]
  intro p e a b c s m args below hf happ hp hk
  refine hM p e a b c s m args below hf ?_ hp hk
  rw [Spec.appliesLoose_iff hf] at happ ⊢
  obtain ⟨g1, g2, g3, g4, g5, g6, g7, g8⟩ := happ
  exact ⟨g1, g2, g3, g4, g5, g6, hr_mono g7 h1 h2 (Nat.le_of_eq h3.symm) (Nat.le_of_eq h4.symm), g8⟩
