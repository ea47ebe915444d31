/-! String constants: length and charAt -/
set_option maxRecDepth 100000
def vschr (i j : Nat) : Int32 := (vsbyt.getD i []).getD j 0
abbrev r_J8_length : Room := { frames := 6, cells := 0, slots := 0, locals := 400 }
abbrev r_J8_charAt : Room := { frames := 6, cells := 0, slots := 0, locals := 400 }
theorem n_J8_length : vdn yJ8_length 0 := ⟨by decide +kernel, by decide +kernel, by decide +kernel⟩
theorem n_J8_charAt : vdn yJ8_charAt 1 := ⟨by decide +kernel, by decide +kernel, by decide +kernel⟩
def w_J8_length (post : Int32 → Prop) (i : Nat) : Prop := post (nI (vslen.getD i 0))
def w_J8_charAt (post : Int32 → Prop) (i : Nat) (x : Int32) : Prop := vp_in x (vslen.getD i 0) ∧ post (vschr i x.toNatClampNeg)
theorem met_J8_length {l : Launch} {E : VE} {h : AH} {post : Int32 → Prop} {i : Nat} (hi : i < 14) (hw : w_J8_length post i) : Mt l E yJ8_length (ws_ yJ8_length cJ8_length 1 (some .int)) r_J8_length [va_rf (some (E.2.2.1 i))] h (vpi (fun (r : Int32) (h' : AH) => h' = h ∧ post r)) := sorry
theorem met_J8_charAt {l : Launch} {E : VE} {h : AH} {post : Int32 → Prop} {i : Nat} {x : Int32} (hi : i < 14) (hw : w_J8_charAt post i x) : Mt l E yJ8_charAt (ws_ yJ8_charAt cJ8_charAt 2 (some .char)) r_J8_charAt [va_rf (some (E.2.2.1 i)), .int x] h (vpi (fun (r : Int32) (h' : AH) => h' = h ∧ post r)) := sorry
