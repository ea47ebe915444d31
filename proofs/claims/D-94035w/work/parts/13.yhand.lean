/-! contracts that are walked by hand (or still open): Arrays.copyOf, Row's number and many -/
set_option maxRecDepth 100000
abbrev r_J5_copyOf : Room := { frames := 3, cells := 1, slots := 63, locals := 120 }
theorem n_J5_copyOf : vdn yJ5_copyOf 2 := ⟨by decide +kernel, by decide +kernel, by decide +kernel⟩
def w_J5_copyOf (post : Option Nat → AH → Prop) (x0 : Option Nat) (x1 : Int32) (h : AH) : Prop :=
  ∃ (a N M : Nat) (g : Nat → Option Nat), x0 = some a ∧ h a = some (.inl (5, N, .inr (.inr (.inr (.inr g))))) ∧ x1 = nI M ∧ N ≤ M ∧ M ≤ 63 ∧ (∀ i : Nat, i < N → ∀ y : Nat, g i = some y → ∃ (ci : Nat) (fs : List Value), vobj ci = true ∧ h y = some (.inr (ci, fs))) ∧
  ∀ q : Nat, h q = none → post (some q) (va_up h q (some (.inl (5, M, .inr (.inr (.inr (.inr (va_cpy g (fun _ => none) 0 0 N))))))))
theorem met_J5_copyOf {l : Launch} {E : VE} {post : Option Nat → AH → Prop} {x0 : Option Nat} {x1 : Int32} {h : AH} (hw : w_J5_copyOf post x0 x1 h) : Mt l E yJ5_copyOf (ws_ yJ5_copyOf cJ5_copyOf 2 (some (.array (.object "java/lang/Object")))) r_J5_copyOf [va_rf x0, .int x1] h (vpq (fun (r : Option Nat) (h' : AH) => post r h')) := sorry
abbrev r_X5_number : Room := { frames := 1, cells := 0, slots := 0, locals := 40 }
abbrev r_X5_many : Room := { frames := 1, cells := 0, slots := 0, locals := 40 }
theorem n_X5_number : vdn yX5_number 1 := ⟨by decide +kernel, by decide +kernel, by decide +kernel⟩
theorem n_X5_many : vdn yX5_many 0 := ⟨by decide +kernel, by decide +kernel, by decide +kernel⟩
/-- a row that holds N numbers of sort 0..3, each as the long that it is -/
def row_is (h : AH) (a : Nat) (sort N : Nat) (f : Nat → Int64) : Prop := ∃ r : Nat, h a = some (.inr (6, [va_rf (some r)])) ∧
  ((sort = 0 ∧ ∃ g : Nat → Int32, h r = some (.inl (2, N, .inl g)) ∧ ∀ i, f i = (g i).toInt64) ∨ (sort = 1 ∧ ∃ g : Nat → Int32, h r = some (.inl (3, N, .inl g)) ∧ ∀ i, f i = (g i).toInt64) ∨
   (sort = 2 ∧ ∃ g : Nat → Int32, h r = some (.inl (0, N, .inl g)) ∧ ∀ i, f i = (g i).toInt64) ∨ (sort = 3 ∧ h r = some (.inl (1, N, .inr (.inl f)))))
def w_X5_number (post : Int64 → Prop) (b0 : Nat) (x1 : Int32) (h : AH) : Prop := ∃ (sort N : Nat) (f : Nat → Int64), row_is h b0 sort N f ∧ vp_in x1 N ∧ post (f x1.toNatClampNeg)
def w_X5_many (post : Int32 → Prop) (b0 : Nat) (h : AH) : Prop := ∃ (sort N : Nat) (f : Nat → Int64), row_is h b0 sort N f ∧ post (nI N)
theorem met_X5_number {l : Launch} {E : VE} {post : Int64 → Prop} {b0 : Nat} {x1 : Int32} {h : AH} (hw : w_X5_number post b0 x1 h) : Mt l E yX5_number (ws_ yX5_number cX5_number 2 (some .long)) r_X5_number [va_rf (some b0), .int x1] h (vpl (fun (r : Int64) (h' : AH) => h' = h ∧ post r)) := sorry
theorem met_X5_many {l : Launch} {E : VE} {post : Int32 → Prop} {b0 : Nat} {h : AH} (hw : w_X5_many post b0 h) : Mt l E yX5_many (ws_ yX5_many cX5_many 1 (some .int)) r_X5_many [va_rf (some b0)] h (vpi (fun (r : Int32) (h' : AH) => h' = h ∧ post r)) := sorry
