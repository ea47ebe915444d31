/-! FRAME: the abstract heap (address to cell), the judgment VV (the kit's W over it, with H, locs and the frame's slots hidden), its rows, contracts -/
set_option maxRecDepth 100000
abbrev AH : Type := Nat → Option va_E
/-- classes' numbers and slots; array classes by kind; string constants' addresses and their bytes' -/
abbrev VE : Type := va_G × (Nat → ClassId) × (Nat → Nat) × (Nat → Nat)
abbrev VX : Type := Program × Env × State × MethodId × Array Value × List Frame × Method × Code × (Nat → Prop)
def TX3 : u_T := fun _ => ("", "", "", false)
def tyX3 : Nat → FieldType := fun _ => .int
theorem nmX3 : ∀ a, a < 0 → ∀ b, b < 0 → a ≠ b → (TX3 a).2.1 ≠ (TX3 b).2.1 := fun a h => absurd h (Nat.not_lt_zero a)
theorem tyX3_ok : ∀ k, k < 0 → parseFieldDescriptor (TX3 k).2.2.1 = some (tyX3 k) := fun a h => absurd h (Nat.not_lt_zero a)
theorem in_X3 : ∀ w ∈ u_ws RX3 TX3 0, w ∈ lw_all := fun w h => by simp [u_ws] at h
def TX4 : u_T := fun _ => ("", "", "", false)
def tyX4 : Nat → FieldType := fun _ => .int
theorem nmX4 : ∀ a, a < 0 → ∀ b, b < 0 → a ≠ b → (TX4 a).2.1 ≠ (TX4 b).2.1 := fun a h => absurd h (Nat.not_lt_zero a)
theorem tyX4_ok : ∀ k, k < 0 → parseFieldDescriptor (TX4 k).2.2.1 = some (tyX4 k) := fun a h => absurd h (Nat.not_lt_zero a)
theorem in_X4 : ∀ w ∈ u_ws RX4 TX4 0, w ∈ lw_all := fun w h => by simp [u_ws] at h
abbrev vcl : List vw_C := [(RX0, TX0, 23), (RX1, TX1, 17), (RJ2, TJ2, 3), (RX2, TX2, 5), (RX3, TX3, 0), (RX4, TX4, 0), (RX5, TX5, 1), (RX6, TX6, 38), (RX7, TX7, 5), (RX8, TX8, 2), (RX9, TX9, 2), (RX10, TX10, 11), (RX11, TX11, 3), (RX12, TX12, 1), (RX13, TX13, 1), (RX14, TX14, 1), (RX15, TX15, 1), (RX16, TX16, 3), (RX18, TX18, 1), (RX19, TX19, 1), (RX20, TX20, 1), (RX21, TX21, 1), (RX22, TX22, 4), (RX23, TX23, 6), (RX24, TX24, 2), (RJ14, TJ14, 6), (RJ15, TJ15, 8), (RJ17, TJ17, 6)]
def vtyl : List FieldType := [.int, .long, .byte, .short, .boolean, .object "java/lang/Object", .object "NobodysBard$Phrase", .object "NobodysBard$State", .object "NobodysBard$Row"]
def vtys (G : Nat → ClassId) : List (ClassId × FieldType) := [(G 0, .int), (G 1, .long), (G 2, .byte), (G 3, .short), (G 4, .boolean), (G 5, .object "java/lang/Object"), (G 6, .object "NobodysBard$Phrase"), (G 7, .object "NobodysBard$State"), (G 8, .object "NobodysBard$Row")]
def vcv (G : Nat → ClassId) (e : va_E) : va_E := match e with
  | .inl a => .inl (G a.1, a.2)
  | .inr o => .inr o
def vhp (E : VE) (h : AH) (H : Heap) : Prop := ∀ (a : Nat) (e : va_E), h a = some e → va_at E.1 vcl (a, vcv E.2.1 e) H
theorem vhp.lt {E : VE} {h : AH} {H : Heap} (hp : vhp E h H) {a : Nat} {e : va_E} (ha : h a = some e) : a < H.size := (hp a e ha).lt
def wl (G : Nat → ClassId) (h : AH) (n : Nat) : va_W := (List.range n).filterMap (fun a => (h a).map (fun e => (a, vcv G e)))
theorem wl_mem {G : Nat → ClassId} {h : AH} {n k : Nat} {q : Nat × va_E} (hq : (wl G h n)[k]? = some q) : ∃ e, q.1 < n ∧ h q.1 = some e ∧ q.2 = vcv G e := by
  obtain ⟨a, ha, hb⟩ := List.mem_filterMap.mp (List.mem_of_getElem? hq)
  cases he : h a with
  | none => rw [he] at hb; cases hb
  | some e =>
    rw [he] at hb
    cases hb
    exact ⟨e, List.mem_range.mp ha, he, rfl⟩
theorem wl_at {G : Nat → ClassId} {h : AH} {n a : Nat} {e : va_E} (ha : a < n) (he : h a = some e) : ∃ k : Nat, (wl G h n)[k]? = some (a, vcv G e) :=
  List.getElem?_of_mem (List.mem_filterMap.mpr ⟨a, List.mem_range.mpr ha, by rw [he]; rfl⟩)
theorem wl_inj {G : Nat → ClassId} {h : AH} : ∀ (n i j : Nat) (p q : Nat × va_E), (wl G h n)[i]? = some p → (wl G h n)[j]? = some q → p.1 = q.1 → i = j := by
  intro n
  induction n with
  | zero => intro i j p q hi; simp [wl] at hi
  | succ n ih =>
    intro i j p q hi hj hpq
    have hs : wl G h (n + 1) = wl G h n ++ ([n].filterMap (fun a => (h a).map (fun e => (a, vcv G e)))) := by
      unfold wl
      rw [List.range_succ, List.filterMap_append]
    have key : ∀ (k : Nat) (r : Nat × va_E), (wl G h (n + 1))[k]? = some r → ((wl G h n)[k]? = some r ∧ r.1 < n) ∨ (k = (wl G h n).length ∧ r.1 = n) := by
      intro k r hk
      rw [hs] at hk
      by_cases hkl : k < (wl G h n).length
      · rw [List.getElem?_append_left hkl] at hk
        obtain ⟨_, h1, -, -⟩ := wl_mem hk
        exact Or.inl ⟨hk, h1⟩
      · rw [List.getElem?_append_right (by omega)] at hk
        cases he : h n with
        | none => simp [he] at hk
        | some e =>
          simp only [List.filterMap_cons, he, Option.map_some, List.filterMap_nil] at hk
          have hz : k - (wl G h n).length < 1 := (List.getElem?_eq_some_iff.mp hk).1
          have hk0 : k = (wl G h n).length := by omega
          subst hk0
          rw [Nat.sub_self] at hk
          cases hk
          exact Or.inr ⟨rfl, rfl⟩
    rcases key i p hi with ⟨h1, l1⟩ | ⟨h1, l1⟩ <;> rcases key j q hj with ⟨h2, l2⟩ | ⟨h2, l2⟩
    · exact ih i j p q h1 h2 hpq
    · omega
    · omega
    · omega
theorem wl_D {G : Nat → ClassId} {h : AH} {n : Nat} {A : Nat → Prop} (hd : ∀ q, h q ≠ none → A q) : va_D A (wl G h n) := by
  refine ⟨wl_inj n, fun k q hk => ?_⟩
  obtain ⟨e, -, h1, -⟩ := wl_mem hk
  exact hd q.1 (by rw [h1]; exact Option.some_ne_none e)
theorem wl_P {E : VE} {h : AH} {H : Heap} {n : Nat} (hp : vhp E h H) : va_P E.1 vcl (wl E.2.1 h n) H := by
  intro k q hk
  obtain ⟨e, -, h1, h2⟩ := wl_mem hk
  obtain ⟨a, x⟩ := q
  cases h2
  exact hp a e h1
theorem vset {E : VE} {h : AH} {H H1 : Heap} {k a : Nat} {e0 : va_E} {e : va_E} (hp : vhp E h H) (hk : (wl E.2.1 h H.size)[k]? = some (a, e0)) (hP : va_P E.1 vcl ((wl E.2.1 h H.size).set k (a, vcv E.2.1 e)) H1) : vhp E (va_up h a (some e)) H1 := by
  have hkl := (List.getElem?_eq_some_iff.mp hk).1
  intro b eb hb
  by_cases hba : b = a
  · subst hba
    rw [va_up_self] at hb
    cases hb
    exact hP k _ (List.getElem?_set_self hkl)
  · rw [va_up_ne _ _ hba] at hb
    obtain ⟨j, hj⟩ := wl_at (G := E.2.1) (n := H.size) (hp.lt hb) hb
    have hjk : k ≠ j := by
      intro z
      subst z
      rw [hk] at hj
      cases hj
      exact hba rfl
    exact hP j _ (by rw [List.getElem?_set_ne hjk]; exact hj)
theorem vpush {E : VE} {h : AH} {H H1 : Heap} {q : Nat} {e : va_E} {A : Nat → Prop} (hp : vhp E h H) (hP : va_P E.1 vcl (wl E.2.1 h H.size ++ [(q, vcv E.2.1 e)]) H1) (hD : va_D A (wl E.2.1 h H.size ++ [(q, vcv E.2.1 e)])) : h q = none ∧ vhp E (va_up h q (some e)) H1 ∧ A q := by
  have hl : (wl E.2.1 h H.size ++ [(q, vcv E.2.1 e)])[(wl E.2.1 h H.size).length]? = some (q, vcv E.2.1 e) := by
    rw [List.getElem?_append_right (Nat.le_refl _), Nat.sub_self]
    rfl
  refine ⟨?_, ?_, hD.2 _ _ hl⟩
  · cases hq : h q with
    | none => rfl
    | some e1 =>
      obtain ⟨j, hj⟩ := wl_at (G := E.2.1) (n := H.size) (hp.lt hq) hq
      have hjl := (List.getElem?_eq_some_iff.mp hj).1
      have hz := hD.1 j (wl E.2.1 h H.size).length (q, vcv E.2.1 e1) (q, vcv E.2.1 e) (by rw [List.getElem?_append_left hjl]; exact hj) hl rfl
      omega
  · intro b eb hb
    by_cases hba : b = q
    · subst hba
      rw [va_up_self] at hb
      cases hb
      exact hP _ _ hl
    · rw [va_up_ne _ _ hba] at hb
      obtain ⟨j, hj⟩ := wl_at (G := E.2.1) (n := H.size) (hp.lt hb) hb
      have hjl := (List.getElem?_eq_some_iff.mp hj).1
      exact hP j _ (by rw [List.getElem?_append_left hjl]; exact hj)
theorem vdom {h : AH} {A : Nat → Prop} {a : Nat} {e : va_E} (hd : ∀ q, h q ≠ none → A q) (ha : A a) : ∀ q, va_up h a (some e) q ≠ none → A q := by
  intro q hq
  by_cases hqa : q = a
  · subst hqa; exact ha
  · rw [va_up_ne _ _ hqa] at hq
    exact hd q hq
def vK (E : VE) (U : State) : Prop := va_K E.1 vcl (vtys E.2.1) U
/-- what the tables alone say, by kinds of word that don't ride in the lists -/
def vfaces : List (String × MethodName × MethodName) := [("NobodysBard$AsLong", ⟨"NobodysBard$Test", "is", "(LNobodysBard$Phrase;I)Z"⟩, ⟨"NobodysBard$AsLong", "is", "(LNobodysBard$Phrase;I)Z"⟩),
  ("NobodysBard$Both", ⟨"NobodysBard$Test", "is", "(LNobodysBard$Phrase;I)Z"⟩, ⟨"NobodysBard$Both", "is", "(LNobodysBard$Phrase;I)Z"⟩),
  ("NobodysBard$Has", ⟨"NobodysBard$Test", "is", "(LNobodysBard$Phrase;I)Z"⟩, ⟨"NobodysBard$Has", "is", "(LNobodysBard$Phrase;I)Z"⟩),
  ("NobodysBard$Not", ⟨"NobodysBard$Test", "is", "(LNobodysBard$Phrase;I)Z"⟩, ⟨"NobodysBard$Not", "is", "(LNobodysBard$Phrase;I)Z"⟩),
  ("NobodysBard$OfTale", ⟨"NobodysBard$Test", "is", "(LNobodysBard$Phrase;I)Z"⟩, ⟨"NobodysBard$OfTale", "is", "(LNobodysBard$Phrase;I)Z"⟩),
  ("NobodysBard$Borrowed", ⟨"NobodysBard$Comes", "kind", "()I"⟩, ⟨"NobodysBard$Borrowed", "kind", "()I"⟩),
  ("NobodysBard$Had", ⟨"NobodysBard$Comes", "kind", "()I"⟩, ⟨"NobodysBard$Had", "kind", "()I"⟩),
  ("NobodysBard$MayBe", ⟨"NobodysBard$Comes", "kind", "()I"⟩, ⟨"NobodysBard$MayBe", "kind", "()I"⟩),
  ("NobodysBard$Moved", ⟨"NobodysBard$Comes", "kind", "()I"⟩, ⟨"NobodysBard$Moved", "kind", "()I"⟩),
  ("NobodysBard$Own", ⟨"NobodysBard$Comes", "kind", "()I"⟩, ⟨"NobodysBard$Own", "kind", "()I"⟩),
  ("NobodysBard$Smoothed", ⟨"NobodysBard$Comes", "kind", "()I"⟩, ⟨"NobodysBard$Smoothed", "kind", "()I"⟩),
  ("NobodysBard$Borrowed", ⟨"NobodysBard$Comes", "from", "()I"⟩, ⟨"NobodysBard$Whose", "from", "()I"⟩),
  ("NobodysBard$Had", ⟨"NobodysBard$Comes", "from", "()I"⟩, ⟨"NobodysBard$Whose", "from", "()I"⟩),
  ("NobodysBard$Moved", ⟨"NobodysBard$Comes", "from", "()I"⟩, ⟨"NobodysBard$Whose", "from", "()I"⟩),
  ("NobodysBard$Smoothed", ⟨"NobodysBard$Comes", "from", "()I"⟩, ⟨"NobodysBard$Whose", "from", "()I"⟩)]
theorem vfaces_ok : ∀ q ∈ vfaces, q.2.1.cls ≠ "java/lang/invoke/MethodHandle" ∧ q.2.1.cls ≠ "java/lang/invoke/VarHandle" := by decide +kernel
def vncs : List (String × String) := [("NobodysBard$Had", "NobodysBard$Own"), ("NobodysBard$Moved", "NobodysBard$Own"), ("NobodysBard$Smoothed", "NobodysBard$Own"), ("NobodysBard$Borrowed", "NobodysBard$Own"), ("NobodysBard$MayBe", "NobodysBard$Own")]
def vfacesD : List (String × MethodName × MethodName) := [("NobodysBard$MayBe", ⟨"NobodysBard$Comes", "from", "()I"⟩, ⟨"NobodysBard$Comes", "from", "()I"⟩),
  ("NobodysBard$Own", ⟨"NobodysBard$Comes", "from", "()I"⟩, ⟨"NobodysBard$Comes", "from", "()I"⟩),
  ("NobodysBard$Borrowed", ⟨"NobodysBard$Comes", "said", "()I"⟩, ⟨"NobodysBard$Comes", "said", "()I"⟩),
  ("NobodysBard$Had", ⟨"NobodysBard$Comes", "said", "()I"⟩, ⟨"NobodysBard$Comes", "said", "()I"⟩),
  ("NobodysBard$MayBe", ⟨"NobodysBard$Comes", "said", "()I"⟩, ⟨"NobodysBard$Comes", "said", "()I"⟩),
  ("NobodysBard$Moved", ⟨"NobodysBard$Comes", "said", "()I"⟩, ⟨"NobodysBard$Comes", "said", "()I"⟩),
  ("NobodysBard$Own", ⟨"NobodysBard$Comes", "said", "()I"⟩, ⟨"NobodysBard$Comes", "said", "()I"⟩),
  ("NobodysBard$Smoothed", ⟨"NobodysBard$Comes", "said", "()I"⟩, ⟨"NobodysBard$Comes", "said", "()I"⟩)]
theorem vfacesD_ok : ∀ q ∈ vfacesD, q.2.1.cls ≠ "java/lang/invoke/MethodHandle" ∧ q.2.1.cls ≠ "java/lang/invoke/VarHandle" := by decide +kernel
/-- a call through an interface that lands in a default method -/
def vFD (C : String) (x y : MethodName) (U : State) : Prop := (Cond.declares x).before #[] U = true ∧ (Cond.interfaceMethod x.cls x.cls x.name x.desc).before #[] U = true ∧ (Cond.publicMethod y).before #[] U = true ∧ (Cond.landsInDefault C x y).before #[] U = true ∧ (Cond.castable C x.cls).before #[] U = true
theorem vFD.moved {C : String} {x y : MethodName} (hx : x.cls ≠ "java/lang/invoke/MethodHandle" ∧ x.cls ≠ "java/lang/invoke/VarHandle") {u U : State} (hvm : u.vm.Alike U.vm) (h : vFD C x y u) : vFD C x y U := by
  obtain ⟨h1, h2, h3, h4, h5⟩ := h
  obtain ⟨r, meth, hn, -⟩ := Cond.declares_spec h1
  have tr : ∀ {c : Cond}, c.onTables = true → c.before #[] (u.setVm U.vm) = true → c.before #[] U = true := by
    intro c hc h
    have e := Cond.onTables_vm (A := #[]) (A' := #[]) (U := u) (U' := U) U.vm c hc
    have hU : U.setVm U.vm = U := rfl
    rw [hU] at e
    rw [← e]
    exact h
  have trd : (Cond.landsInDefault C x y).before #[] (u.setVm U.vm) = true → (Cond.landsInDefault C x y).before #[] U = true := by
    intro h
    first
      | exact h
      | (simp only [Cond.before, Cond.holds, Cond.value, State.vm_setVm] at h ⊢; exact h)
  exact ⟨tr rfl (by rw [Cond.declares_setVm hvm]; exact h1), tr rfl (by rw [Cond.interfaceMethod_setVm hvm (r := r) hn hx]; exact h2), tr rfl (by rw [Cond.publicMethod_setVm hvm]; exact h3), trd (by rw [Cond.landsInDefault_setVm hvm (State.methodFound?_setVm hvm _ _ _)]; exact h4), tr rfl (by rw [Cond.castable_setVm hvm]; exact h5)⟩
def vT (U : State) : Prop :=
  (∀ (a : String) (i : Nat) (b n d h : String), Cond.fieldLinkNest a i b n d h ∈ lw_tbl → va_Nw (.fieldLinkNest a i b n d h) U) ∧
  (∀ (a : String) (i : Nat) (x : MethodName) (h : String), Cond.methodLinkNest a i x h ∈ lw_tbl → va_Nw (.methodLinkNest a i x h) U) ∧
  (∀ (C T : String), Cond.castable C T ∈ lw_tbl → va_Nw (.castable C T) U) ∧
  (∀ (C : String), Cond.arrayOver (.object C) ∈ lw_tbl → va_AO C U) ∧
  (∀ q ∈ vfaces, va_Fw q.1 q.2.1 q.2.2 U) ∧ (∀ q ∈ vncs, va_Nc q.1 q.2 U) ∧ (∀ q ∈ vfacesD, vFD q.1 q.2.1 q.2.2 U)
theorem vT.warm {s U : State} (hW : s.WarmedH U.vm) (h : vT s) : vT U :=
  ⟨fun a i b n d g hw => va_Nw.warmF hW (h.1 a i b n d g hw), fun a i x g hw => va_Nw.warmM hW (h.2.1 a i x g hw), fun C T hw => va_Nw.warmC hW (h.2.2.1 C T hw), fun C hw => va_AO.moved hW.alike (h.2.2.2.1 C hw), fun q hq => va_Fw.moved (vfaces_ok q hq) hW.alike (h.2.2.2.2.1 q hq), fun q hq => va_Nc.moved hW.alike (h.2.2.2.2.2.1 q hq), fun q hq => vFD.moved (vfacesD_ok q hq) hW.alike (h.2.2.2.2.2.2 q hq)⟩
theorem vT.same {u U : State} (hv : u.vm = U.vm) (h : vT u) : vT U :=
  ⟨fun a i b n d g hw => va_Nw.same rfl hv (h.1 a i b n d g hw), fun a i x g hw => va_Nw.same rfl hv (h.2.1 a i x g hw), fun C T hw => va_Nw.same rfl hv (h.2.2.1 C T hw), fun C hw => va_AO.moved (hv ▸ Vm.Alike.refl _) (h.2.2.2.1 C hw), fun q hq => va_Fw.moved (vfaces_ok q hq) (hv ▸ Vm.Alike.refl _) (h.2.2.2.2.1 q hq), fun q hq => va_Nc.moved (hv ▸ Vm.Alike.refl _) (h.2.2.2.2.2.1 q hq), fun q hq => vFD.moved (vfacesD_ok q hq) (hv ▸ Vm.Alike.refl _) (h.2.2.2.2.2.2 q hq)⟩
def vslen : List Nat := [6, 2, 3, 3, 4, 4, 3, 2, 4, 4, 6, 3, 3, 61]
def vsbyt : List (List Int32) := [[98, 101, 99, 111, 109, 101], [105, 102], [110, 111, 116], [104, 97, 115], [108, 111, 110, 103], [116, 97, 108, 101], [97, 110, 100], [111, 114], [108, 111, 115, 101], [109, 111, 118, 101], [115, 109, 111, 111, 116, 104], [115, 97, 121], [102, 111, 114], [32, 98, 101, 99, 111, 109, 101, 32, 105, 102, 32, 110, 111, 116, 32, 97, 110, 100, 32, 111, 114, 32, 104, 97, 115, 32, 108, 111, 110, 103, 32, 116, 97, 108, 101, 32, 108, 111, 115, 101, 32, 109, 111, 118, 101, 32, 115, 109, 111, 111, 116, 104, 32, 115, 97, 121, 32, 102, 111, 114, 32]]
def vsref : List (String × Nat × String) := [("NobodysBard$Reader", 115, "become"), ("NobodysBard$Reader", 124, "if"), ("NobodysBard$Reader", 170, "not"), ("NobodysBard$Reader", 180, "has"), ("NobodysBard$Reader", 185, "long"), ("NobodysBard$Reader", 190, "tale"), ("NobodysBard$Reader", 165, "and"), ("NobodysBard$Reader", 155, "or"), ("NobodysBard$Reader", 195, "lose"), ("NobodysBard$Reader", 197, "move"), ("NobodysBard$Reader", 199, "smooth"), ("NobodysBard$Reader", 201, "say"), ("NobodysBard$Reader", 215, "for"), ("NobodysBardModel", 121, " become if not and or has long tale lose move smooth say for ")]
def vSt (E : VE) (A : Nat → Prop) (U : State) (H : Heap) : Prop := vk_S 14 vslen vsbyt E.2.2.1 E.2.2.2 A U H ∧ ∀ (i : Nat) (q : String × Nat × String), vsref[i]? = some q → vk_R q.1 q.2.1 q.2.2 (E.2.2.1 i) U
theorem vSt.kept {E : VE} {A : Nat → Prop} {U : State} {H H1 : Heap} (h : vSt E A U H) (hq : ∀ a : Nat, a < H.size → ¬ A a → H1[a]? = H[a]?) : vSt E A U H1 := ⟨h.1.kept hq, h.2⟩
theorem vSt.narrow {E : VE} {A B : Nat → Prop} {U : State} {H : Heap} (h : vSt E A U H) (hAB : ∀ q, B q → A q) : vSt E B U H := ⟨h.1.narrow hAB, h.2⟩
theorem vSt.warm {E : VE} {A : Nat → Prop} {s U : State} {H : Heap} (hW : s.WarmedH U.vm) (h : vSt E A s H) : vSt E A U H := ⟨vk_S.moved hW.alike h.1, fun i q hq => vk_R.warm hW (h.2 i q hq)⟩
theorem vSt.same {E : VE} {A : Nat → Prop} {u U : State} {H : Heap} (hv : u.vm = U.vm) (h : vSt E A u H) : vSt E A U H := ⟨vk_S.moved (hv ▸ Vm.Alike.refl _) h.1, fun i q hq => vk_R.same hv.symm (h.2 i q hq)⟩
/-- the surroundings of a run: tables, string constants -/
def vEn (E : VE) (A : Nat → Prop) (U : State) (H : Heap) : Prop := vT U ∧ vSt E A U H
theorem vEn.call {E : VE} {A A' : Nat → Prop} {s U : State} {H : Heap} {locs : List Loc} (hE : vEn E A s s.heap) (hS : va_S A s.heap H locs) (hA : ∀ q, A' q → A q) (hU : U.heap = H) (hW : s.WarmedH U.vm) : vEn E A' U U.heap := by
  subst hU
  exact ⟨hE.1.warm hW, ((hE.2.kept hS.2.1).narrow hA).warm hW⟩
theorem vEn.same {E : VE} {A : Nat → Prop} {u U : State} {H : Heap} (hv : u.vm = U.vm) (h : vEn E A u H) : vEn E A U H := ⟨h.1.same hv, h.2.same hv⟩
def vA (h : AH) (sz : Nat) : Nat → Prop := fun q => h q ≠ none ∨ sz ≤ q
def vPc (E : VE) (av : List Value) (h : AH) (sz : Nat) : Array Value → State → Prop := va_Pc av (fun U => U.heap.size = sz ∧ vhp E h U.heap ∧ vK E U ∧ vEn E (vA h sz) U U.heap)
def vQc (E : VE) (A : Nat → Prop) (P : Option Value → AH → Prop) : Array Value → State → Outcome → State → Prop := fun _ st o t =>
  (∃ (v : Option Value) (h' : AH), o = .returned v ∧ P v h' ∧ vhp E h' t.heap ∧ ∀ q, h' q ≠ none → A q) ∧ va_F A st t
/-- a contract: from the heap h the method returns, and P holds of the answer and the heap behind it -/
def Mt (l : Launch) (E : VE) (y : MethodName) (ws : List Cond) (rm : Room) (av : List Value) (h : AH) (P : Option Value → AH → Prop) : Prop := ∀ sz : Nat, Met l y ws rm (vPc E av h sz) (vQc E (vA h sz) P) rm.cells rm.slots (vA h sz)
def vpi (post : Int32 → AH → Prop) : Option Value → AH → Prop := fun v h => ∃ r : Int32, v = some (.int r) ∧ post r h
def vpl (post : Int64 → AH → Prop) : Option Value → AH → Prop := fun v h => ∃ r : Int64, v = some (.long r) ∧ post r h
def vpq (post : Option Nat → AH → Prop) : Option Value → AH → Prop := fun v h => ∃ r : Option Nat, v = some (va_rf r) ∧ post r h
def vpv (post : AH → Prop) : Option Value → AH → Prop := fun v h => v = none ∧ post h
def vok (l : Launch) (E : VE) (X : VX) (cc : ByteArray) (own nm : String) (nL : Nat) (ret : Option FieldType) : Prop := match X with
  | (p, _, s, m, args, _, meth, c, A) => p.tables.exec = Jvm.exec ∧ c.code = cc ∧ meth.sig.returnType = ret ∧ c.maxLocals = nL ∧ s.vm.findClass own = some m.cls ∧ meth.name = nm ∧ meth.locks = false ∧ (∀ w ∈ lw_all, w.before args s = true) ∧ vK E s ∧ vEn E A s s.heap ∧ ∀ q, s.heap.size ≤ q → A q
def VV (l : Launch) (E : VE) (X : VX) (cc : ByteArray) (own nm : String) (nL : Nat) (R : Room) (ret : Option FieldType) (P : Option Value → AH → Prop) (h : AH) (k n pc : Nat) (lv : List (Nat × Value)) (st : List Value) : Prop :=
  vok l E X cc own nm nL ret → match X with
  | (p, e, s, m, args, below, meth, c, A) => ∀ (H : Heap) (locs : List Loc) (ls : Array Slot), vhp E h H → (∀ q, h q ≠ none → A q) → va_S A s.heap H locs → k ≤ R.cells → n ≤ R.slots → lv_has ls nL lv →
    W p l e R s m args below meth c H locs k n (MQ below (vQc E A P) args s R.cells R.slots A) (F0 m pc ls st)
section FRAME
variable {l : Launch} {E : VE} {X : VX} {cc : ByteArray} {own nm : String} {nL : Nat} {R : Room} {ret : Option FieldType} {P : Option Value → AH → Prop} {h : AH} {k n pc : Nat} {lv : List (Nat × Value)} {st : List Value}
theorem v_sub {lv' : List (Nat × Value)} (ks : List Nat) (hl' : lv_pick lv ks = lv') (kk : VV l E X cc own nm nL R ret P h k n pc lv' st) : VV l E X cc own nm nL R ret P h k n pc lv st := by
  obtain ⟨p, e, s, m, args, below, meth, c, A⟩ := X
  intro ok H locs ls hp hd hS hk hn hl
  exact kk ok H locs ls hp hd hS hk hn (lv_sub hl ks hl')
theorem v_heap {h' : AH} (e : h = h') (kk : VV l E X cc own nm nL R ret P h' k n pc lv st) : VV l E X cc own nm nL R ret P h k n pc lv st := by
  subst e
  exact kk
theorem v_widen {k' n' : Nat} (h1 : k ≤ k') (h2 : n ≤ n') (h3 : k' ≤ R.cells) (h4 : n' ≤ R.slots) (kk : VV l E X cc own nm nL R ret P h k' n' pc lv st) : VV l E X cc own nm nL R ret P h k n pc lv st := by
  obtain ⟨p, e, s, m, args, below, meth, c, A⟩ := X
  intro ok H locs ls hp hd hS hk hn hl
  exact W.widen h1 h2 (kk ok H locs ls hp hd hS h3 h4 hl)
theorem v_topi {x : Int32} (kk : ∀ y : Int32, y = x → VV l E X cc own nm nL R ret P h k n pc lv (.int y :: st)) : VV l E X cc own nm nL R ret P h k n pc lv (.int x :: st) := kk x rfl
theorem v_topl {x : Int64} (kk : ∀ y : Int64, y = x → VV l E X cc own nm nL R ret P h k n pc lv (.long y :: st)) : VV l E X cc own nm nL R ret P h k n pc lv (.long x :: st) := kk x rfl
theorem v_topq {x : Option Nat} (kk : ∀ y : Option Nat, y = x → VV l E X cc own nm nL R ret P h k n pc lv (va_rf y :: st)) : VV l E X cc own nm nL R ret P h k n pc lv (va_rf x :: st) := kk x rfl
theorem v_cI (x : Int32) : (Value.int x).category = 1 := rfl
theorem v_cJ (x : Int64) : (Value.long x).category = 2 := rfl
theorem v_swn {x : Int32} (z : Int) {w : Int32} (h : ¬ x = w) (hw : w.toInt = z) : x.toInt ≠ z := fun q => h (Int32.toInt_inj.mp (by rw [hw]; exact q))
theorem v_z1 {x : Int32} (h : x = nI 0 ∨ x = nI 1) : narrow .boolean (.int x) = .int x ∧ fits .boolean (.int x) = true := by
  rcases h with e | e <;> rw [e] <;> decide
theorem v_ki {post : Int32 → AH → Prop} {pc2 k2 n2 : Nat} (kk : ∀ (r : Int32) (h' : AH), post r h' → VV l E X cc own nm nL R ret P h' k2 n2 pc2 lv (.int r :: st)) : ∀ (v : Option Value) (h' : AH), vpi post v h' → VV l E X cc own nm nL R ret P h' k2 n2 pc2 lv (v.toList ++ st) := by
  intro v h' hq
  obtain ⟨r, rfl, hr⟩ := hq
  exact kk r h' hr
theorem v_kl {post : Int64 → AH → Prop} {pc2 k2 n2 : Nat} (kk : ∀ (r : Int64) (h' : AH), post r h' → VV l E X cc own nm nL R ret P h' k2 n2 pc2 lv (.long r :: st)) : ∀ (v : Option Value) (h' : AH), vpl post v h' → VV l E X cc own nm nL R ret P h' k2 n2 pc2 lv (v.toList ++ st) := by
  intro v h' hq
  obtain ⟨r, rfl, hr⟩ := hq
  exact kk r h' hr
theorem v_kq {post : Option Nat → AH → Prop} {pc2 k2 n2 : Nat} (kk : ∀ (r : Option Nat) (h' : AH), post r h' → VV l E X cc own nm nL R ret P h' k2 n2 pc2 lv (va_rf r :: st)) : ∀ (v : Option Value) (h' : AH), vpq post v h' → VV l E X cc own nm nL R ret P h' k2 n2 pc2 lv (v.toList ++ st) := by
  intro v h' hq
  obtain ⟨r, rfl, hr⟩ := hq
  exact kk r h' hr
theorem v_kv {post : AH → Prop} {pc2 k2 n2 : Nat} (kk : ∀ (h' : AH), post h' → VV l E X cc own nm nL R ret P h' k2 n2 pc2 lv st) : ∀ (v : Option Value) (h' : AH), vpv post v h' → VV l E X cc own nm nL R ret P h' k2 n2 pc2 lv (v.toList ++ st) := by
  intro v h' hq
  obtain ⟨rfl, hr⟩ := hq
  exact kk h' hr
theorem v_iconst {z : Int} {v : Int32} (d : decode cc pc = .ok (.iconst z, 1)) (hv : Int32.ofInt z = v) (kk : VV l E X cc own nm nL R ret P h k n (pc + 1) lv (.int v :: st)) : VV l E X cc own nm nL R ret P h k n pc lv st := by
  obtain ⟨p, e, s, m, args, below, meth, c, A⟩ := X
  intro ok H locs ls hp hd hS hk hn hl
  obtain ⟨hx, hb, hr, hml, hown, hnm, hlk, hts, hK, hE, hA⟩ := id ok
  exact lv_iconst hx hb d hv (kk ok H locs ls hp hd hS hk hn hl)
theorem v_bipush {z : Int} {v : Int32} (d : decode cc pc = .ok (.bipush z, 2)) (hv : (Int8.ofInt z).toInt32 = v) (kk : VV l E X cc own nm nL R ret P h k n (pc + 2) lv (.int v :: st)) : VV l E X cc own nm nL R ret P h k n pc lv st := by
  obtain ⟨p, e, s, m, args, below, meth, c, A⟩ := X
  intro ok H locs ls hp hd hS hk hn hl
  obtain ⟨hx, hb, hr, hml, hown, hnm, hlk, hts, hK, hE, hA⟩ := id ok
  exact lv_bipush hx hb d hv (kk ok H locs ls hp hd hS hk hn hl)
theorem v_sipush {z : Int} {v : Int32} (d : decode cc pc = .ok (.sipush z, 3)) (hv : (Int16.ofInt z).toInt32 = v) (kk : VV l E X cc own nm nL R ret P h k n (pc + 3) lv (.int v :: st)) : VV l E X cc own nm nL R ret P h k n pc lv st := by
  obtain ⟨p, e, s, m, args, below, meth, c, A⟩ := X
  intro ok H locs ls hp hd hS hk hn hl
  obtain ⟨hx, hb, hr, hml, hown, hnm, hlk, hts, hK, hE, hA⟩ := id ok
  exact lv_sipush hx hb d hv (kk ok H locs ls hp hd hS hk hn hl)
theorem v_lconst {z : Fin 2} {v : Int64} (d : decode cc pc = .ok (.lconst z, 1)) (hv : Int64.ofNat (z : Nat) = v) (kk : VV l E X cc own nm nL R ret P h k n (pc + 1) lv (.long v :: st)) : VV l E X cc own nm nL R ret P h k n pc lv st := by
  obtain ⟨p, e, s, m, args, below, meth, c, A⟩ := X
  intro ok H locs ls hp hd hS hk hn hl
  obtain ⟨hx, hb, hr, hml, hown, hnm, hlk, hts, hK, hE, hA⟩ := id ok
  exact lv_lconst hx hb d hv (kk ok H locs ls hp hd hS hk hn hl)
theorem v_ldc {idx : Nat} {v : Int32} (d : decode cc pc = .ok (.ldc idx, 2)) (hq : Cond.constant own idx v ∈ lw_all) (kk : VV l E X cc own nm nL R ret P h k n (pc + 2) lv (.int v :: st)) : VV l E X cc own nm nL R ret P h k n pc lv st := by
  obtain ⟨p, e, s, m, args, below, meth, c, A⟩ := X
  intro ok H locs ls hp hd hS hk hn hl
  obtain ⟨hx, hb, hr, hml, hown, hnm, hlk, hts, hK, hE, hA⟩ := id ok
  exact lv_ldc hx hb hown (hts _ hq) d (kk ok H locs ls hp hd hS hk hn hl)
theorem v_ldc2 {idx : Nat} {v : Int64} (d : decode cc pc = .ok (.ldc2_w idx, 3)) (hq : Cond.constantLong own idx v ∈ lw_all) (kk : VV l E X cc own nm nL R ret P h k n (pc + 3) lv (.long v :: st)) : VV l E X cc own nm nL R ret P h k n pc lv st := by
  obtain ⟨p, e, s, m, args, below, meth, c, A⟩ := X
  intro ok H locs ls hp hd hS hk hn hl
  obtain ⟨hx, hb, hr, hml, hown, hnm, hlk, hts, hK, hE, hA⟩ := id ok
  exact lv_ldc2 hx hb hown (hts _ hq) d (kk ok H locs ls hp hd hS hk hn hl)
theorem v_ldcS {idx i : Nat} {tx : String} (d : decode cc pc = .ok (.ldc idx, 2)) (hr1 : vsref[i]? = some (own, idx, tx)) (kk : VV l E X cc own nm nL R ret P h k n (pc + 2) lv (va_rf (some (E.2.2.1 i)) :: st)) : VV l E X cc own nm nL R ret P h k n pc lv st := by
  obtain ⟨p, e, s, m, args, below, meth, c, A⟩ := X
  intro ok H locs ls hp hd hS hk hn hl
  obtain ⟨hx, hb, hr, hml, hown, hnm, hlk, hts, hK, hE, hA⟩ := id ok
  exact va_ldcS hx hb hown (hE.2.2 i _ hr1) d (kk ok H locs ls hp hd hS hk hn hl)
theorem v_null  (d : decode cc pc = .ok (.aconst_null, 1)) (kk : VV l E X cc own nm nL R ret P h k n (pc + 1) lv (va_rf none :: st)) : VV l E X cc own nm nL R ret P h k n pc lv st := by
  obtain ⟨p, e, s, m, args, below, meth, c, A⟩ := X
  intro ok H locs ls hp hd hS hk hn hl
  obtain ⟨hx, hb, hr, hml, hown, hnm, hlk, hts, hK, hE, hA⟩ := id ok
  exact lv_null hx hb d (kk ok H locs ls hp hd hS hk hn hl)
theorem v_iload_n {q i : Nat} {j : Fin 4} {x : Int32} (d : decode cc pc = .ok (.iload_n j, 1)) (hj : (j : Nat) = i) (hq : lv[q]? = some (i, .int x)) (kk : VV l E X cc own nm nL R ret P h k n (pc + 1) lv (.int x :: st)) : VV l E X cc own nm nL R ret P h k n pc lv st := by
  obtain ⟨p, e, s, m, args, below, meth, c, A⟩ := X
  intro ok H locs ls hp hd hS hk hn hl
  obtain ⟨hx, hb, hr, hml, hown, hnm, hlk, hts, hK, hE, hA⟩ := id ok
  exact lv_iload_n hx hb d hj (lv_at hl q hq) (kk ok H locs ls hp hd hS hk hn hl)
theorem v_iload {q i : Nat} {x : Int32} (d : decode cc pc = .ok (.iload i, 2)) (hq : lv[q]? = some (i, .int x)) (kk : VV l E X cc own nm nL R ret P h k n (pc + 2) lv (.int x :: st)) : VV l E X cc own nm nL R ret P h k n pc lv st := by
  obtain ⟨p, e, s, m, args, below, meth, c, A⟩ := X
  intro ok H locs ls hp hd hS hk hn hl
  obtain ⟨hx, hb, hr, hml, hown, hnm, hlk, hts, hK, hE, hA⟩ := id ok
  exact lv_iload hx hb d (lv_at hl q hq) (kk ok H locs ls hp hd hS hk hn hl)
theorem v_lload_n {q i : Nat} {j : Fin 4} {x : Int64} (d : decode cc pc = .ok (.lload_n j, 1)) (hj : (j : Nat) = i) (hq : lv[q]? = some (i, .long x)) (kk : VV l E X cc own nm nL R ret P h k n (pc + 1) lv (.long x :: st)) : VV l E X cc own nm nL R ret P h k n pc lv st := by
  obtain ⟨p, e, s, m, args, below, meth, c, A⟩ := X
  intro ok H locs ls hp hd hS hk hn hl
  obtain ⟨hx, hb, hr, hml, hown, hnm, hlk, hts, hK, hE, hA⟩ := id ok
  exact lv_lload_n hx hb d hj (lv_at hl q hq) (kk ok H locs ls hp hd hS hk hn hl)
theorem v_lload {q i : Nat} {x : Int64} (d : decode cc pc = .ok (.lload i, 2)) (hq : lv[q]? = some (i, .long x)) (kk : VV l E X cc own nm nL R ret P h k n (pc + 2) lv (.long x :: st)) : VV l E X cc own nm nL R ret P h k n pc lv st := by
  obtain ⟨p, e, s, m, args, below, meth, c, A⟩ := X
  intro ok H locs ls hp hd hS hk hn hl
  obtain ⟨hx, hb, hr, hml, hown, hnm, hlk, hts, hK, hE, hA⟩ := id ok
  exact lv_lload hx hb d (lv_at hl q hq) (kk ok H locs ls hp hd hS hk hn hl)
theorem v_aload_n {q i : Nat} {j : Fin 4} {r : Option Nat} (d : decode cc pc = .ok (.aload_n j, 1)) (hj : (j : Nat) = i) (hq : lv[q]? = some (i, va_rf r)) (kk : VV l E X cc own nm nL R ret P h k n (pc + 1) lv (va_rf r :: st)) : VV l E X cc own nm nL R ret P h k n pc lv st := by
  obtain ⟨p, e, s, m, args, below, meth, c, A⟩ := X
  intro ok H locs ls hp hd hS hk hn hl
  obtain ⟨hx, hb, hr, hml, hown, hnm, hlk, hts, hK, hE, hA⟩ := id ok
  cases r with
  | none => exact lv_aload_nN hx hb d hj (lv_at hl q hq) (kk ok H locs ls hp hd hS hk hn hl)
  | some a => exact lv_aload_n hx hb d hj (lv_at hl q hq) (kk ok H locs ls hp hd hS hk hn hl)
theorem v_aload {q i : Nat} {r : Option Nat} (d : decode cc pc = .ok (.aload i, 2)) (hq : lv[q]? = some (i, va_rf r)) (kk : VV l E X cc own nm nL R ret P h k n (pc + 2) lv (va_rf r :: st)) : VV l E X cc own nm nL R ret P h k n pc lv st := by
  obtain ⟨p, e, s, m, args, below, meth, c, A⟩ := X
  intro ok H locs ls hp hd hS hk hn hl
  obtain ⟨hx, hb, hr, hml, hown, hnm, hlk, hts, hK, hE, hA⟩ := id ok
  cases r with
  | none => exact lv_aloadN hx hb d (lv_at hl q hq) (kk ok H locs ls hp hd hS hk hn hl)
  | some a => exact lv_aload hx hb d (lv_at hl q hq) (kk ok H locs ls hp hd hS hk hn hl)
theorem v_istore_n {i : Nat} {j : Fin 4} {x : Int32} {lv1 : List (Nat × Value)} (d : decode cc pc = .ok (.istore_n j, 1)) (hj : (j : Nat) = i) (hi : i < nL) (hl1 : (i, Value.int x) :: lv.filter (fun q => !(q.1 == i) && !(q.1 + 1 == i && q.2.category == 2)) = lv1) (kk : VV l E X cc own nm nL R ret P h k n (pc + 1) lv1 st) : VV l E X cc own nm nL R ret P h k n pc lv (.int x :: st) := by
  obtain ⟨p, e, s, m, args, below, meth, c, A⟩ := X
  intro ok H locs ls hp hd hS hk hn hl
  obtain ⟨hx, hb, hr, hml, hown, hnm, hlk, hts, hK, hE, hA⟩ := id ok
  exact lv_istore_n hx hb d hj hl hi hl1 (fun ls hl => kk ok H locs ls hp hd hS hk hn hl)
theorem v_lstore_n {i : Nat} {j : Fin 4} {x : Int64} {lv1 : List (Nat × Value)} (d : decode cc pc = .ok (.lstore_n j, 1)) (hj : (j : Nat) = i) (hi : i + 1 < nL) (hl1 : (i, Value.long x) :: lv.filter (fun q => !(q.1 == i) && (!(q.1 == i + 1) && !(q.1 + 1 == i && q.2.category == 2))) = lv1) (kk : VV l E X cc own nm nL R ret P h k n (pc + 1) lv1 st) : VV l E X cc own nm nL R ret P h k n pc lv (.long x :: st) := by
  obtain ⟨p, e, s, m, args, below, meth, c, A⟩ := X
  intro ok H locs ls hp hd hS hk hn hl
  obtain ⟨hx, hb, hr, hml, hown, hnm, hlk, hts, hK, hE, hA⟩ := id ok
  exact lv_lstore_n hx hb d hj hl hi hl1 (fun ls hl => kk ok H locs ls hp hd hS hk hn hl)
theorem v_astore_n {i : Nat} {j : Fin 4} {r : Option Nat} {lv1 : List (Nat × Value)} (d : decode cc pc = .ok (.astore_n j, 1)) (hj : (j : Nat) = i) (hi : i < nL) (hl1 : (i, va_rf r) :: lv.filter (fun q => !(q.1 == i) && !(q.1 + 1 == i && q.2.category == 2)) = lv1) (kk : VV l E X cc own nm nL R ret P h k n (pc + 1) lv1 st) : VV l E X cc own nm nL R ret P h k n pc lv (va_rf r :: st) := by
  obtain ⟨p, e, s, m, args, below, meth, c, A⟩ := X
  intro ok H locs ls hp hd hS hk hn hl
  obtain ⟨hx, hb, hr, hml, hown, hnm, hlk, hts, hK, hE, hA⟩ := id ok
  cases r with
  | none => exact lv_astore_nN hx hb d hj hl hi hl1 (fun ls hl => kk ok H locs ls hp hd hS hk hn hl)
  | some a => exact lv_astore_n hx hb d hj hl hi hl1 (fun ls hl => kk ok H locs ls hp hd hS hk hn hl)
theorem v_istore {i : Nat} {x : Int32} {lv1 : List (Nat × Value)} (d : decode cc pc = .ok (.istore i, 2)) (hi : i < nL) (hl1 : (i, Value.int x) :: lv.filter (fun q => !(q.1 == i) && !(q.1 + 1 == i && q.2.category == 2)) = lv1) (kk : VV l E X cc own nm nL R ret P h k n (pc + 2) lv1 st) : VV l E X cc own nm nL R ret P h k n pc lv (.int x :: st) := by
  obtain ⟨p, e, s, m, args, below, meth, c, A⟩ := X
  intro ok H locs ls hp hd hS hk hn hl
  obtain ⟨hx, hb, hr, hml, hown, hnm, hlk, hts, hK, hE, hA⟩ := id ok
  exact lv_istore hx hb d hl hi hl1 (fun ls hl => kk ok H locs ls hp hd hS hk hn hl)
theorem v_lstore {i : Nat} {x : Int64} {lv1 : List (Nat × Value)} (d : decode cc pc = .ok (.lstore i, 2)) (hi : i + 1 < nL) (hl1 : (i, Value.long x) :: lv.filter (fun q => !(q.1 == i) && (!(q.1 == i + 1) && !(q.1 + 1 == i && q.2.category == 2))) = lv1) (kk : VV l E X cc own nm nL R ret P h k n (pc + 2) lv1 st) : VV l E X cc own nm nL R ret P h k n pc lv (.long x :: st) := by
  obtain ⟨p, e, s, m, args, below, meth, c, A⟩ := X
  intro ok H locs ls hp hd hS hk hn hl
  obtain ⟨hx, hb, hr, hml, hown, hnm, hlk, hts, hK, hE, hA⟩ := id ok
  exact lv_lstore hx hb d hl hi hl1 (fun ls hl => kk ok H locs ls hp hd hS hk hn hl)
theorem v_astore {i : Nat} {r : Option Nat} {lv1 : List (Nat × Value)} (d : decode cc pc = .ok (.astore i, 2)) (hi : i < nL) (hl1 : (i, va_rf r) :: lv.filter (fun q => !(q.1 == i) && !(q.1 + 1 == i && q.2.category == 2)) = lv1) (kk : VV l E X cc own nm nL R ret P h k n (pc + 2) lv1 st) : VV l E X cc own nm nL R ret P h k n pc lv (va_rf r :: st) := by
  obtain ⟨p, e, s, m, args, below, meth, c, A⟩ := X
  intro ok H locs ls hp hd hS hk hn hl
  obtain ⟨hx, hb, hr, hml, hown, hnm, hlk, hts, hK, hE, hA⟩ := id ok
  cases r with
  | none => exact lv_astoreN hx hb d hl hi hl1 (fun ls hl => kk ok H locs ls hp hd hS hk hn hl)
  | some a => exact lv_astore hx hb d hl hi hl1 (fun ls hl => kk ok H locs ls hp hd hS hk hn hl)
theorem v_iinc {q i : Nat} {z : Int} {x v : Int32} {lv1 : List (Nat × Value)} (d : decode cc pc = .ok (.iinc i z, 3)) (hq : lv[q]? = some (i, .int x)) (hv : x + Int32.ofInt z = v) (hi : i < nL) (hl1 : (i, Value.int v) :: lv.filter (fun q => !(q.1 == i) && !(q.1 + 1 == i && q.2.category == 2)) = lv1) (kk : VV l E X cc own nm nL R ret P h k n (pc + 3) lv1 st) : VV l E X cc own nm nL R ret P h k n pc lv st := by
  obtain ⟨p, e, s, m, args, below, meth, c, A⟩ := X
  intro ok H locs ls hp hd hS hk hn hl
  obtain ⟨hx, hb, hr, hml, hown, hnm, hlk, hts, hK, hE, hA⟩ := id ok
  exact lv_iinc hx hb d hl hq hv hi hl1 (fun ls hl => kk ok H locs ls hp hd hS hk hn hl)
theorem v_iadd {x y : Int32} (d : decode cc pc = .ok (.iadd, 1)) (kk : VV l E X cc own nm nL R ret P h k n (pc + 1) lv (.int (x + y) :: st)) : VV l E X cc own nm nL R ret P h k n pc lv (.int y :: .int x :: st) := by
  obtain ⟨p, e, s, m, args, below, meth, c, A⟩ := X
  intro ok H locs ls hp hd hS hk hn hl
  obtain ⟨hx, hb, hr, hml, hown, hnm, hlk, hts, hK, hE, hA⟩ := id ok
  exact lv_iadd hx hb d (kk ok H locs ls hp hd hS hk hn hl)
theorem v_isub {x y : Int32} (d : decode cc pc = .ok (.isub, 1)) (kk : VV l E X cc own nm nL R ret P h k n (pc + 1) lv (.int (x - y) :: st)) : VV l E X cc own nm nL R ret P h k n pc lv (.int y :: .int x :: st) := by
  obtain ⟨p, e, s, m, args, below, meth, c, A⟩ := X
  intro ok H locs ls hp hd hS hk hn hl
  obtain ⟨hx, hb, hr, hml, hown, hnm, hlk, hts, hK, hE, hA⟩ := id ok
  exact lv_isub hx hb d (kk ok H locs ls hp hd hS hk hn hl)
theorem v_imul {x y : Int32} (d : decode cc pc = .ok (.imul, 1)) (kk : VV l E X cc own nm nL R ret P h k n (pc + 1) lv (.int (x * y) :: st)) : VV l E X cc own nm nL R ret P h k n pc lv (.int y :: .int x :: st) := by
  obtain ⟨p, e, s, m, args, below, meth, c, A⟩ := X
  intro ok H locs ls hp hd hS hk hn hl
  obtain ⟨hx, hb, hr, hml, hown, hnm, hlk, hts, hK, hE, hA⟩ := id ok
  exact lv_imul hx hb d (kk ok H locs ls hp hd hS hk hn hl)
theorem v_iand {x y : Int32} (d : decode cc pc = .ok (.iand, 1)) (kk : VV l E X cc own nm nL R ret P h k n (pc + 1) lv (.int (x &&& y) :: st)) : VV l E X cc own nm nL R ret P h k n pc lv (.int y :: .int x :: st) := by
  obtain ⟨p, e, s, m, args, below, meth, c, A⟩ := X
  intro ok H locs ls hp hd hS hk hn hl
  obtain ⟨hx, hb, hr, hml, hown, hnm, hlk, hts, hK, hE, hA⟩ := id ok
  exact lv_iand hx hb d (kk ok H locs ls hp hd hS hk hn hl)
theorem v_ior {x y : Int32} (d : decode cc pc = .ok (.ior, 1)) (kk : VV l E X cc own nm nL R ret P h k n (pc + 1) lv (.int (x ||| y) :: st)) : VV l E X cc own nm nL R ret P h k n pc lv (.int y :: .int x :: st) := by
  obtain ⟨p, e, s, m, args, below, meth, c, A⟩ := X
  intro ok H locs ls hp hd hS hk hn hl
  obtain ⟨hx, hb, hr, hml, hown, hnm, hlk, hts, hK, hE, hA⟩ := id ok
  exact lv_ior hx hb d (kk ok H locs ls hp hd hS hk hn hl)
theorem v_ixor {x y : Int32} (d : decode cc pc = .ok (.ixor, 1)) (kk : VV l E X cc own nm nL R ret P h k n (pc + 1) lv (.int (x ^^^ y) :: st)) : VV l E X cc own nm nL R ret P h k n pc lv (.int y :: .int x :: st) := by
  obtain ⟨p, e, s, m, args, below, meth, c, A⟩ := X
  intro ok H locs ls hp hd hS hk hn hl
  obtain ⟨hx, hb, hr, hml, hown, hnm, hlk, hts, hK, hE, hA⟩ := id ok
  exact lv_ixor hx hb d (kk ok H locs ls hp hd hS hk hn hl)
theorem v_ladd {x y : Int64} (d : decode cc pc = .ok (.ladd, 1)) (kk : VV l E X cc own nm nL R ret P h k n (pc + 1) lv (.long (x + y) :: st)) : VV l E X cc own nm nL R ret P h k n pc lv (.long y :: .long x :: st) := by
  obtain ⟨p, e, s, m, args, below, meth, c, A⟩ := X
  intro ok H locs ls hp hd hS hk hn hl
  obtain ⟨hx, hb, hr, hml, hown, hnm, hlk, hts, hK, hE, hA⟩ := id ok
  exact lv_ladd hx hb d (kk ok H locs ls hp hd hS hk hn hl)
theorem v_lsub {x y : Int64} (d : decode cc pc = .ok (.lsub, 1)) (kk : VV l E X cc own nm nL R ret P h k n (pc + 1) lv (.long (x - y) :: st)) : VV l E X cc own nm nL R ret P h k n pc lv (.long y :: .long x :: st) := by
  obtain ⟨p, e, s, m, args, below, meth, c, A⟩ := X
  intro ok H locs ls hp hd hS hk hn hl
  obtain ⟨hx, hb, hr, hml, hown, hnm, hlk, hts, hK, hE, hA⟩ := id ok
  exact lv_lsub hx hb d (kk ok H locs ls hp hd hS hk hn hl)
theorem v_lmul {x y : Int64} (d : decode cc pc = .ok (.lmul, 1)) (kk : VV l E X cc own nm nL R ret P h k n (pc + 1) lv (.long (x * y) :: st)) : VV l E X cc own nm nL R ret P h k n pc lv (.long y :: .long x :: st) := by
  obtain ⟨p, e, s, m, args, below, meth, c, A⟩ := X
  intro ok H locs ls hp hd hS hk hn hl
  obtain ⟨hx, hb, hr, hml, hown, hnm, hlk, hts, hK, hE, hA⟩ := id ok
  exact lv_lmul hx hb d (kk ok H locs ls hp hd hS hk hn hl)
theorem v_land {x y : Int64} (d : decode cc pc = .ok (.land, 1)) (kk : VV l E X cc own nm nL R ret P h k n (pc + 1) lv (.long (x &&& y) :: st)) : VV l E X cc own nm nL R ret P h k n pc lv (.long y :: .long x :: st) := by
  obtain ⟨p, e, s, m, args, below, meth, c, A⟩ := X
  intro ok H locs ls hp hd hS hk hn hl
  obtain ⟨hx, hb, hr, hml, hown, hnm, hlk, hts, hK, hE, hA⟩ := id ok
  exact lv_land hx hb d (kk ok H locs ls hp hd hS hk hn hl)
theorem v_lor {x y : Int64} (d : decode cc pc = .ok (.lor, 1)) (kk : VV l E X cc own nm nL R ret P h k n (pc + 1) lv (.long (x ||| y) :: st)) : VV l E X cc own nm nL R ret P h k n pc lv (.long y :: .long x :: st) := by
  obtain ⟨p, e, s, m, args, below, meth, c, A⟩ := X
  intro ok H locs ls hp hd hS hk hn hl
  obtain ⟨hx, hb, hr, hml, hown, hnm, hlk, hts, hK, hE, hA⟩ := id ok
  exact lv_lor hx hb d (kk ok H locs ls hp hd hS hk hn hl)
theorem v_lxor {x y : Int64} (d : decode cc pc = .ok (.lxor, 1)) (kk : VV l E X cc own nm nL R ret P h k n (pc + 1) lv (.long (x ^^^ y) :: st)) : VV l E X cc own nm nL R ret P h k n pc lv (.long y :: .long x :: st) := by
  obtain ⟨p, e, s, m, args, below, meth, c, A⟩ := X
  intro ok H locs ls hp hd hS hk hn hl
  obtain ⟨hx, hb, hr, hml, hown, hnm, hlk, hts, hK, hE, hA⟩ := id ok
  exact lv_lxor hx hb d (kk ok H locs ls hp hd hS hk hn hl)
theorem v_idiv {x y : Int32} (d : decode cc pc = .ok (.idiv, 1)) (hz : ¬ y = 0) (kk : VV l E X cc own nm nL R ret P h k n (pc + 1) lv (.int (x / y) :: st)) : VV l E X cc own nm nL R ret P h k n pc lv (.int y :: .int x :: st) := by
  obtain ⟨p, e, s, m, args, below, meth, c, A⟩ := X
  intro ok H locs ls hp hd hS hk hn hl
  obtain ⟨hx, hb, hr, hml, hown, hnm, hlk, hts, hK, hE, hA⟩ := id ok
  exact lv_idiv hx hb d hz (kk ok H locs ls hp hd hS hk hn hl)
theorem v_irem {x y : Int32} (d : decode cc pc = .ok (.irem, 1)) (hz : ¬ y = 0) (kk : VV l E X cc own nm nL R ret P h k n (pc + 1) lv (.int (x - x / y * y) :: st)) : VV l E X cc own nm nL R ret P h k n pc lv (.int y :: .int x :: st) := by
  obtain ⟨p, e, s, m, args, below, meth, c, A⟩ := X
  intro ok H locs ls hp hd hS hk hn hl
  obtain ⟨hx, hb, hr, hml, hown, hnm, hlk, hts, hK, hE, hA⟩ := id ok
  exact lv_irem hx hb d hz (kk ok H locs ls hp hd hS hk hn hl)
theorem v_ldiv {x y : Int64} (d : decode cc pc = .ok (.ldiv, 1)) (hz : ¬ y = 0) (kk : VV l E X cc own nm nL R ret P h k n (pc + 1) lv (.long (x / y) :: st)) : VV l E X cc own nm nL R ret P h k n pc lv (.long y :: .long x :: st) := by
  obtain ⟨p, e, s, m, args, below, meth, c, A⟩ := X
  intro ok H locs ls hp hd hS hk hn hl
  obtain ⟨hx, hb, hr, hml, hown, hnm, hlk, hts, hK, hE, hA⟩ := id ok
  exact lv_ldiv hx hb d hz (kk ok H locs ls hp hd hS hk hn hl)
theorem v_lrem {x y : Int64} (d : decode cc pc = .ok (.lrem, 1)) (hz : ¬ y = 0) (kk : VV l E X cc own nm nL R ret P h k n (pc + 1) lv (.long (x - x / y * y) :: st)) : VV l E X cc own nm nL R ret P h k n pc lv (.long y :: .long x :: st) := by
  obtain ⟨p, e, s, m, args, below, meth, c, A⟩ := X
  intro ok H locs ls hp hd hS hk hn hl
  obtain ⟨hx, hb, hr, hml, hown, hnm, hlk, hts, hK, hE, hA⟩ := id ok
  exact lv_lrem hx hb d hz (kk ok H locs ls hp hd hS hk hn hl)
theorem v_ineg {x : Int32} (d : decode cc pc = .ok (.ineg, 1)) (kk : VV l E X cc own nm nL R ret P h k n (pc + 1) lv (.int (-x) :: st)) : VV l E X cc own nm nL R ret P h k n pc lv (.int x :: st) := by
  obtain ⟨p, e, s, m, args, below, meth, c, A⟩ := X
  intro ok H locs ls hp hd hS hk hn hl
  obtain ⟨hx, hb, hr, hml, hown, hnm, hlk, hts, hK, hE, hA⟩ := id ok
  exact lv_ineg hx hb d (kk ok H locs ls hp hd hS hk hn hl)
theorem v_ishl {x y : Int32} (d : decode cc pc = .ok (.ishl, 1)) (kk : VV l E X cc own nm nL R ret P h k n (pc + 1) lv (.int (x <<< (y &&& 31)) :: st)) : VV l E X cc own nm nL R ret P h k n pc lv (.int y :: .int x :: st) := by
  obtain ⟨p, e, s, m, args, below, meth, c, A⟩ := X
  intro ok H locs ls hp hd hS hk hn hl
  obtain ⟨hx, hb, hr, hml, hown, hnm, hlk, hts, hK, hE, hA⟩ := id ok
  exact lv_ishl hx hb d (kk ok H locs ls hp hd hS hk hn hl)
theorem v_ishr {x y : Int32} (d : decode cc pc = .ok (.ishr, 1)) (kk : VV l E X cc own nm nL R ret P h k n (pc + 1) lv (.int (x >>> (y &&& 31)) :: st)) : VV l E X cc own nm nL R ret P h k n pc lv (.int y :: .int x :: st) := by
  obtain ⟨p, e, s, m, args, below, meth, c, A⟩ := X
  intro ok H locs ls hp hd hS hk hn hl
  obtain ⟨hx, hb, hr, hml, hown, hnm, hlk, hts, hK, hE, hA⟩ := id ok
  exact lv_ishr hx hb d (kk ok H locs ls hp hd hS hk hn hl)
theorem v_iushr {x y : Int32} (d : decode cc pc = .ok (.iushr, 1)) (kk : VV l E X cc own nm nL R ret P h k n (pc + 1) lv (.int ((x.toUInt32 >>> (y.toUInt32 &&& Int32.toUInt32 31)).toInt32) :: st)) : VV l E X cc own nm nL R ret P h k n pc lv (.int y :: .int x :: st) := by
  obtain ⟨p, e, s, m, args, below, meth, c, A⟩ := X
  intro ok H locs ls hp hd hS hk hn hl
  obtain ⟨hx, hb, hr, hml, hown, hnm, hlk, hts, hK, hE, hA⟩ := id ok
  exact lv_iushr hx hb d rfl (kk ok H locs ls hp hd hS hk hn hl)
theorem v_lushr {x : Int64} {y : Int32} (d : decode cc pc = .ok (.lushr, 1)) (kk : VV l E X cc own nm nL R ret P h k n (pc + 1) lv (.long ((x.toUInt64 >>> (y.toInt64.toUInt64 &&& Int64.toUInt64 63)).toInt64) :: st)) : VV l E X cc own nm nL R ret P h k n pc lv (.int y :: .long x :: st) := by
  obtain ⟨p, e, s, m, args, below, meth, c, A⟩ := X
  intro ok H locs ls hp hd hS hk hn hl
  obtain ⟨hx, hb, hr, hml, hown, hnm, hlk, hts, hK, hE, hA⟩ := id ok
  exact lv_lushr hx hb d rfl (kk ok H locs ls hp hd hS hk hn hl)
theorem v_lshl {x : Int64} {y : Int32} (d : decode cc pc = .ok (.lshl, 1)) (kk : VV l E X cc own nm nL R ret P h k n (pc + 1) lv (.long (x <<< (y.toInt64 &&& 63)) :: st)) : VV l E X cc own nm nL R ret P h k n pc lv (.int y :: .long x :: st) := by
  obtain ⟨p, e, s, m, args, below, meth, c, A⟩ := X
  intro ok H locs ls hp hd hS hk hn hl
  obtain ⟨hx, hb, hr, hml, hown, hnm, hlk, hts, hK, hE, hA⟩ := id ok
  exact lv_lshl hx hb d rfl (kk ok H locs ls hp hd hS hk hn hl)
theorem v_lcmp {x y : Int64} (d : decode cc pc = .ok (.lcmp, 1)) (kk : VV l E X cc own nm nL R ret P h k n (pc + 1) lv (.int (lg_cmp x y) :: st)) : VV l E X cc own nm nL R ret P h k n pc lv (.long y :: .long x :: st) := by
  obtain ⟨p, e, s, m, args, below, meth, c, A⟩ := X
  intro ok H locs ls hp hd hS hk hn hl
  obtain ⟨hx, hb, hr, hml, hown, hnm, hlk, hts, hK, hE, hA⟩ := id ok
  exact W.lcmp hx hb d (kk ok H locs ls hp hd hS hk hn hl)
theorem v_i2l {x : Int32} (d : decode cc pc = .ok (.i2l, 1)) (kk : VV l E X cc own nm nL R ret P h k n (pc + 1) lv (.long (x.toInt64) :: st)) : VV l E X cc own nm nL R ret P h k n pc lv (.int x :: st) := by
  obtain ⟨p, e, s, m, args, below, meth, c, A⟩ := X
  intro ok H locs ls hp hd hS hk hn hl
  obtain ⟨hx, hb, hr, hml, hown, hnm, hlk, hts, hK, hE, hA⟩ := id ok
  exact lv_i2l hx hb d rfl (kk ok H locs ls hp hd hS hk hn hl)
theorem v_l2i {x : Int64} (d : decode cc pc = .ok (.l2i, 1)) (kk : VV l E X cc own nm nL R ret P h k n (pc + 1) lv (.int (x.toInt32) :: st)) : VV l E X cc own nm nL R ret P h k n pc lv (.long x :: st) := by
  obtain ⟨p, e, s, m, args, below, meth, c, A⟩ := X
  intro ok H locs ls hp hd hS hk hn hl
  obtain ⟨hx, hb, hr, hml, hown, hnm, hlk, hts, hK, hE, hA⟩ := id ok
  exact lv_l2i hx hb d rfl (kk ok H locs ls hp hd hS hk hn hl)
theorem v_i2b {x : Int32} (d : decode cc pc = .ok (.i2b, 1)) (kk : VV l E X cc own nm nL R ret P h k n (pc + 1) lv (.int (x.toInt8.toInt32) :: st)) : VV l E X cc own nm nL R ret P h k n pc lv (.int x :: st) := by
  obtain ⟨p, e, s, m, args, below, meth, c, A⟩ := X
  intro ok H locs ls hp hd hS hk hn hl
  obtain ⟨hx, hb, hr, hml, hown, hnm, hlk, hts, hK, hE, hA⟩ := id ok
  exact lv_i2b hx hb d rfl (kk ok H locs ls hp hd hS hk hn hl)
theorem v_i2s {x : Int32} (d : decode cc pc = .ok (.i2s, 1)) (kk : VV l E X cc own nm nL R ret P h k n (pc + 1) lv (.int (x.toInt16.toInt32) :: st)) : VV l E X cc own nm nL R ret P h k n pc lv (.int x :: st) := by
  obtain ⟨p, e, s, m, args, below, meth, c, A⟩ := X
  intro ok H locs ls hp hd hS hk hn hl
  obtain ⟨hx, hb, hr, hml, hown, hnm, hlk, hts, hK, hE, hA⟩ := id ok
  exact lv_i2s hx hb d rfl (kk ok H locs ls hp hd hS hk hn hl)
theorem v_i2c {x : Int32} (d : decode cc pc = .ok (.i2c, 1)) (kk : VV l E X cc own nm nL R ret P h k n (pc + 1) lv (.int ((x.toUInt32 % 65536).toInt32) :: st)) : VV l E X cc own nm nL R ret P h k n pc lv (.int x :: st) := by
  obtain ⟨p, e, s, m, args, below, meth, c, A⟩ := X
  intro ok H locs ls hp hd hS hk hn hl
  obtain ⟨hx, hb, hr, hml, hown, hnm, hlk, hts, hK, hE, hA⟩ := id ok
  exact lv_i2c hx hb d rfl (kk ok H locs ls hp hd hS hk hn hl)
theorem v_dup {va : Value} (d : decode cc pc = .ok (.dup, 1)) (hva : va.category = 1) (kk : VV l E X cc own nm nL R ret P h k n (pc + 1) lv (va :: va :: st)) : VV l E X cc own nm nL R ret P h k n pc lv (va :: st) := by
  obtain ⟨p, e, s, m, args, below, meth, c, A⟩ := X
  intro ok H locs ls hp hd hS hk hn hl
  obtain ⟨hx, hb, hr, hml, hown, hnm, hlk, hts, hK, hE, hA⟩ := id ok
  exact lv_dup hx hb d hva (kk ok H locs ls hp hd hS hk hn hl)
theorem v_pop {va : Value} (d : decode cc pc = .ok (.pop, 1)) (hva : va.category = 1) (kk : VV l E X cc own nm nL R ret P h k n (pc + 1) lv st) : VV l E X cc own nm nL R ret P h k n pc lv (va :: st) := by
  obtain ⟨p, e, s, m, args, below, meth, c, A⟩ := X
  intro ok H locs ls hp hd hS hk hn hl
  obtain ⟨hx, hb, hr, hml, hown, hnm, hlk, hts, hK, hE, hA⟩ := id ok
  exact lv_pop hx hb d hva (kk ok H locs ls hp hd hS hk hn hl)
theorem v_dup_x1 {va vb : Value} (d : decode cc pc = .ok (.dup_x1, 1)) (hva : va.category = 1) (hvb : vb.category = 1) (kk : VV l E X cc own nm nL R ret P h k n (pc + 1) lv (va :: vb :: va :: st)) : VV l E X cc own nm nL R ret P h k n pc lv (va :: vb :: st) := by
  obtain ⟨p, e, s, m, args, below, meth, c, A⟩ := X
  intro ok H locs ls hp hd hS hk hn hl
  obtain ⟨hx, hb, hr, hml, hown, hnm, hlk, hts, hK, hE, hA⟩ := id ok
  exact lv_dup_x1 hx hb d hva hvb (kk ok H locs ls hp hd hS hk hn hl)
theorem v_dup_x2 {va vb vd : Value} (d : decode cc pc = .ok (.dup_x2, 1)) (hva : va.category = 1) (hvb : vb.category = 1) (hvd : vd.category = 1) (kk : VV l E X cc own nm nL R ret P h k n (pc + 1) lv (va :: vb :: vd :: va :: st)) : VV l E X cc own nm nL R ret P h k n pc lv (va :: vb :: vd :: st) := by
  obtain ⟨p, e, s, m, args, below, meth, c, A⟩ := X
  intro ok H locs ls hp hd hS hk hn hl
  obtain ⟨hx, hb, hr, hml, hown, hnm, hlk, hts, hK, hE, hA⟩ := id ok
  exact lv_dup_x2 hx hb d hva hvb hvd (kk ok H locs ls hp hd hS hk hn hl)
theorem v_dup2 {va vb : Value} (d : decode cc pc = .ok (.dup2, 1)) (hva : va.category = 1) (hvb : vb.category = 1) (kk : VV l E X cc own nm nL R ret P h k n (pc + 1) lv (va :: vb :: va :: vb :: st)) : VV l E X cc own nm nL R ret P h k n pc lv (va :: vb :: st) := by
  obtain ⟨p, e, s, m, args, below, meth, c, A⟩ := X
  intro ok H locs ls hp hd hS hk hn hl
  obtain ⟨hx, hb, hr, hml, hown, hnm, hlk, hts, hK, hE, hA⟩ := id ok
  exact lv_dup2_11 hx hb d hva hvb (kk ok H locs ls hp hd hS hk hn hl)
theorem v_dup2l {va : Value} (d : decode cc pc = .ok (.dup2, 1)) (hva : va.category = 2) (kk : VV l E X cc own nm nL R ret P h k n (pc + 1) lv (va :: va :: st)) : VV l E X cc own nm nL R ret P h k n pc lv (va :: st) := by
  obtain ⟨p, e, s, m, args, below, meth, c, A⟩ := X
  intro ok H locs ls hp hd hS hk hn hl
  obtain ⟨hx, hb, hr, hml, hown, hnm, hlk, hts, hK, hE, hA⟩ := id ok
  exact lv_dup2_2 hx hb d hva (kk ok H locs ls hp hd hS hk hn hl)
theorem v_pop2l {va : Value} (d : decode cc pc = .ok (.pop2, 1)) (hva : va.category = 2) (kk : VV l E X cc own nm nL R ret P h k n (pc + 1) lv st) : VV l E X cc own nm nL R ret P h k n pc lv (va :: st) := by
  obtain ⟨p, e, s, m, args, below, meth, c, A⟩ := X
  intro ok H locs ls hp hd hS hk hn hl
  obtain ⟨hx, hb, hr, hml, hown, hnm, hlk, hts, hK, hE, hA⟩ := id ok
  exact lv_pop2_2 hx hb d hva (kk ok H locs ls hp hd hS hk hn hl)
theorem v_if_eq {x : Int32} {off : Int} {tgt : Nat} (d : decode cc pc = .ok (.ifCond .eq off, 3)) (ht : (pc : Int) + off = (tgt : Int)) (kt : x = 0 → VV l E X cc own nm nL R ret P h k n tgt lv st) (kf : ¬ x = 0 → VV l E X cc own nm nL R ret P h k n (pc + 3) lv st) : VV l E X cc own nm nL R ret P h k n pc lv (.int x :: st) := by
  obtain ⟨p, e, s, m, args, below, meth, c, A⟩ := X
  intro ok H locs ls hp hd hS hk hn hl
  obtain ⟨hx, hb, hr, hml, hown, hnm, hlk, hts, hK, hE, hA⟩ := id ok
  exact lv_if_eq hx hb d ht (fun z => kt z ok H locs ls hp hd hS hk hn hl) (fun z => kf z ok H locs ls hp hd hS hk hn hl)
theorem v_icmp_eq {x y : Int32} {off : Int} {tgt : Nat} (d : decode cc pc = .ok (.if_icmp .eq off, 3)) (ht : (pc : Int) + off = (tgt : Int)) (kt : x = y → VV l E X cc own nm nL R ret P h k n tgt lv st) (kf : ¬ x = y → VV l E X cc own nm nL R ret P h k n (pc + 3) lv st) : VV l E X cc own nm nL R ret P h k n pc lv (.int y :: .int x :: st) := by
  obtain ⟨p, e, s, m, args, below, meth, c, A⟩ := X
  intro ok H locs ls hp hd hS hk hn hl
  obtain ⟨hx, hb, hr, hml, hown, hnm, hlk, hts, hK, hE, hA⟩ := id ok
  exact lv_icmp_eq hx hb d ht (fun z => kt z ok H locs ls hp hd hS hk hn hl) (fun z => kf z ok H locs ls hp hd hS hk hn hl)
theorem v_if_ne {x : Int32} {off : Int} {tgt : Nat} (d : decode cc pc = .ok (.ifCond .ne off, 3)) (ht : (pc : Int) + off = (tgt : Int)) (kt : ¬ x = 0 → VV l E X cc own nm nL R ret P h k n tgt lv st) (kf : x = 0 → VV l E X cc own nm nL R ret P h k n (pc + 3) lv st) : VV l E X cc own nm nL R ret P h k n pc lv (.int x :: st) := by
  obtain ⟨p, e, s, m, args, below, meth, c, A⟩ := X
  intro ok H locs ls hp hd hS hk hn hl
  obtain ⟨hx, hb, hr, hml, hown, hnm, hlk, hts, hK, hE, hA⟩ := id ok
  exact lv_if_ne hx hb d ht (fun z => kt z ok H locs ls hp hd hS hk hn hl) (fun z => kf z ok H locs ls hp hd hS hk hn hl)
theorem v_icmp_ne {x y : Int32} {off : Int} {tgt : Nat} (d : decode cc pc = .ok (.if_icmp .ne off, 3)) (ht : (pc : Int) + off = (tgt : Int)) (kt : ¬ x = y → VV l E X cc own nm nL R ret P h k n tgt lv st) (kf : x = y → VV l E X cc own nm nL R ret P h k n (pc + 3) lv st) : VV l E X cc own nm nL R ret P h k n pc lv (.int y :: .int x :: st) := by
  obtain ⟨p, e, s, m, args, below, meth, c, A⟩ := X
  intro ok H locs ls hp hd hS hk hn hl
  obtain ⟨hx, hb, hr, hml, hown, hnm, hlk, hts, hK, hE, hA⟩ := id ok
  exact lv_icmp_ne hx hb d ht (fun z => kt z ok H locs ls hp hd hS hk hn hl) (fun z => kf z ok H locs ls hp hd hS hk hn hl)
theorem v_if_lt {x : Int32} {off : Int} {tgt : Nat} (d : decode cc pc = .ok (.ifCond .lt off, 3)) (ht : (pc : Int) + off = (tgt : Int)) (kt : x < 0 → VV l E X cc own nm nL R ret P h k n tgt lv st) (kf : ¬ x < 0 → VV l E X cc own nm nL R ret P h k n (pc + 3) lv st) : VV l E X cc own nm nL R ret P h k n pc lv (.int x :: st) := by
  obtain ⟨p, e, s, m, args, below, meth, c, A⟩ := X
  intro ok H locs ls hp hd hS hk hn hl
  obtain ⟨hx, hb, hr, hml, hown, hnm, hlk, hts, hK, hE, hA⟩ := id ok
  exact lv_if_lt hx hb d ht (fun z => kt z ok H locs ls hp hd hS hk hn hl) (fun z => kf z ok H locs ls hp hd hS hk hn hl)
theorem v_icmp_lt {x y : Int32} {off : Int} {tgt : Nat} (d : decode cc pc = .ok (.if_icmp .lt off, 3)) (ht : (pc : Int) + off = (tgt : Int)) (kt : x < y → VV l E X cc own nm nL R ret P h k n tgt lv st) (kf : ¬ x < y → VV l E X cc own nm nL R ret P h k n (pc + 3) lv st) : VV l E X cc own nm nL R ret P h k n pc lv (.int y :: .int x :: st) := by
  obtain ⟨p, e, s, m, args, below, meth, c, A⟩ := X
  intro ok H locs ls hp hd hS hk hn hl
  obtain ⟨hx, hb, hr, hml, hown, hnm, hlk, hts, hK, hE, hA⟩ := id ok
  exact lv_icmp_lt hx hb d ht (fun z => kt z ok H locs ls hp hd hS hk hn hl) (fun z => kf z ok H locs ls hp hd hS hk hn hl)
theorem v_if_ge {x : Int32} {off : Int} {tgt : Nat} (d : decode cc pc = .ok (.ifCond .ge off, 3)) (ht : (pc : Int) + off = (tgt : Int)) (kt : 0 ≤ x → VV l E X cc own nm nL R ret P h k n tgt lv st) (kf : ¬ 0 ≤ x → VV l E X cc own nm nL R ret P h k n (pc + 3) lv st) : VV l E X cc own nm nL R ret P h k n pc lv (.int x :: st) := by
  obtain ⟨p, e, s, m, args, below, meth, c, A⟩ := X
  intro ok H locs ls hp hd hS hk hn hl
  obtain ⟨hx, hb, hr, hml, hown, hnm, hlk, hts, hK, hE, hA⟩ := id ok
  exact lv_if_ge hx hb d ht (fun z => kt z ok H locs ls hp hd hS hk hn hl) (fun z => kf z ok H locs ls hp hd hS hk hn hl)
theorem v_icmp_ge {x y : Int32} {off : Int} {tgt : Nat} (d : decode cc pc = .ok (.if_icmp .ge off, 3)) (ht : (pc : Int) + off = (tgt : Int)) (kt : y ≤ x → VV l E X cc own nm nL R ret P h k n tgt lv st) (kf : ¬ y ≤ x → VV l E X cc own nm nL R ret P h k n (pc + 3) lv st) : VV l E X cc own nm nL R ret P h k n pc lv (.int y :: .int x :: st) := by
  obtain ⟨p, e, s, m, args, below, meth, c, A⟩ := X
  intro ok H locs ls hp hd hS hk hn hl
  obtain ⟨hx, hb, hr, hml, hown, hnm, hlk, hts, hK, hE, hA⟩ := id ok
  exact lv_icmp_ge hx hb d ht (fun z => kt z ok H locs ls hp hd hS hk hn hl) (fun z => kf z ok H locs ls hp hd hS hk hn hl)
theorem v_if_gt {x : Int32} {off : Int} {tgt : Nat} (d : decode cc pc = .ok (.ifCond .gt off, 3)) (ht : (pc : Int) + off = (tgt : Int)) (kt : 0 < x → VV l E X cc own nm nL R ret P h k n tgt lv st) (kf : ¬ 0 < x → VV l E X cc own nm nL R ret P h k n (pc + 3) lv st) : VV l E X cc own nm nL R ret P h k n pc lv (.int x :: st) := by
  obtain ⟨p, e, s, m, args, below, meth, c, A⟩ := X
  intro ok H locs ls hp hd hS hk hn hl
  obtain ⟨hx, hb, hr, hml, hown, hnm, hlk, hts, hK, hE, hA⟩ := id ok
  exact lv_if_gt hx hb d ht (fun z => kt z ok H locs ls hp hd hS hk hn hl) (fun z => kf z ok H locs ls hp hd hS hk hn hl)
theorem v_icmp_gt {x y : Int32} {off : Int} {tgt : Nat} (d : decode cc pc = .ok (.if_icmp .gt off, 3)) (ht : (pc : Int) + off = (tgt : Int)) (kt : y < x → VV l E X cc own nm nL R ret P h k n tgt lv st) (kf : ¬ y < x → VV l E X cc own nm nL R ret P h k n (pc + 3) lv st) : VV l E X cc own nm nL R ret P h k n pc lv (.int y :: .int x :: st) := by
  obtain ⟨p, e, s, m, args, below, meth, c, A⟩ := X
  intro ok H locs ls hp hd hS hk hn hl
  obtain ⟨hx, hb, hr, hml, hown, hnm, hlk, hts, hK, hE, hA⟩ := id ok
  exact lv_icmp_gt hx hb d ht (fun z => kt z ok H locs ls hp hd hS hk hn hl) (fun z => kf z ok H locs ls hp hd hS hk hn hl)
theorem v_if_le {x : Int32} {off : Int} {tgt : Nat} (d : decode cc pc = .ok (.ifCond .le off, 3)) (ht : (pc : Int) + off = (tgt : Int)) (kt : x ≤ 0 → VV l E X cc own nm nL R ret P h k n tgt lv st) (kf : ¬ x ≤ 0 → VV l E X cc own nm nL R ret P h k n (pc + 3) lv st) : VV l E X cc own nm nL R ret P h k n pc lv (.int x :: st) := by
  obtain ⟨p, e, s, m, args, below, meth, c, A⟩ := X
  intro ok H locs ls hp hd hS hk hn hl
  obtain ⟨hx, hb, hr, hml, hown, hnm, hlk, hts, hK, hE, hA⟩ := id ok
  exact lv_if_le hx hb d ht (fun z => kt z ok H locs ls hp hd hS hk hn hl) (fun z => kf z ok H locs ls hp hd hS hk hn hl)
theorem v_icmp_le {x y : Int32} {off : Int} {tgt : Nat} (d : decode cc pc = .ok (.if_icmp .le off, 3)) (ht : (pc : Int) + off = (tgt : Int)) (kt : x ≤ y → VV l E X cc own nm nL R ret P h k n tgt lv st) (kf : ¬ x ≤ y → VV l E X cc own nm nL R ret P h k n (pc + 3) lv st) : VV l E X cc own nm nL R ret P h k n pc lv (.int y :: .int x :: st) := by
  obtain ⟨p, e, s, m, args, below, meth, c, A⟩ := X
  intro ok H locs ls hp hd hS hk hn hl
  obtain ⟨hx, hb, hr, hml, hown, hnm, hlk, hts, hK, hE, hA⟩ := id ok
  exact lv_icmp_le hx hb d ht (fun z => kt z ok H locs ls hp hd hS hk hn hl) (fun z => kf z ok H locs ls hp hd hS hk hn hl)
theorem v_ifnull {r : Option Nat} {off : Int} {tgt : Nat} (d : decode cc pc = .ok (.ifnull off, 3)) (ht : (pc : Int) + off = (tgt : Int)) (kt : r = none → VV l E X cc own nm nL R ret P h k n tgt lv st) (kf : ∀ a : Nat, r = some a → VV l E X cc own nm nL R ret P h k n (pc + 3) lv st) : VV l E X cc own nm nL R ret P h k n pc lv (va_rf r :: st) := by
  obtain ⟨p, e, s, m, args, below, meth, c, A⟩ := X
  intro ok H locs ls hp hd hS hk hn hl
  obtain ⟨hx, hb, hr, hml, hown, hnm, hlk, hts, hK, hE, hA⟩ := id ok
  cases r with
  | none => exact lv_ifnullN hx hb d ht (kt rfl ok H locs ls hp hd hS hk hn hl)
  | some a => exact lv_ifnull hx hb d (kf a rfl ok H locs ls hp hd hS hk hn hl)
theorem v_ifnonnull {r : Option Nat} {off : Int} {tgt : Nat} (d : decode cc pc = .ok (.ifnonnull off, 3)) (ht : (pc : Int) + off = (tgt : Int)) (kf : r = none → VV l E X cc own nm nL R ret P h k n (pc + 3) lv st) (kt : ∀ a : Nat, r = some a → VV l E X cc own nm nL R ret P h k n tgt lv st) : VV l E X cc own nm nL R ret P h k n pc lv (va_rf r :: st) := by
  obtain ⟨p, e, s, m, args, below, meth, c, A⟩ := X
  intro ok H locs ls hp hd hS hk hn hl
  obtain ⟨hx, hb, hr, hml, hown, hnm, hlk, hts, hK, hE, hA⟩ := id ok
  cases r with
  | none => exact lv_ifnonnullN hx hb d (kf rfl ok H locs ls hp hd hS hk hn hl)
  | some a => exact lv_ifnonnull hx hb d ht (kt a rfl ok H locs ls hp hd hS hk hn hl)
theorem v_acmp_eq {rx ry : Option Nat} {off : Int} {tgt : Nat} (d : decode cc pc = .ok (.if_acmp .eq off, 3)) (ht : (pc : Int) + off = (tgt : Int)) (kt : rx = ry → VV l E X cc own nm nL R ret P h k n tgt lv st) (kf : ¬ rx = ry → VV l E X cc own nm nL R ret P h k n (pc + 3) lv st) : VV l E X cc own nm nL R ret P h k n pc lv (va_rf ry :: va_rf rx :: st) := by
  obtain ⟨p, e, s, m, args, below, meth, c, A⟩ := X
  intro ok H locs ls hp hd hS hk hn hl
  obtain ⟨hx, hb, hr, hml, hown, hnm, hlk, hts, hK, hE, hA⟩ := id ok
  exact lv_acmp_eq hx hb d ht (fun z => kt z ok H locs ls hp hd hS hk hn hl) (fun z => kf z ok H locs ls hp hd hS hk hn hl)
theorem v_acmp_ne {rx ry : Option Nat} {off : Int} {tgt : Nat} (d : decode cc pc = .ok (.if_acmp .ne off, 3)) (ht : (pc : Int) + off = (tgt : Int)) (kt : ¬ rx = ry → VV l E X cc own nm nL R ret P h k n tgt lv st) (kf : rx = ry → VV l E X cc own nm nL R ret P h k n (pc + 3) lv st) : VV l E X cc own nm nL R ret P h k n pc lv (va_rf ry :: va_rf rx :: st) := by
  obtain ⟨p, e, s, m, args, below, meth, c, A⟩ := X
  intro ok H locs ls hp hd hS hk hn hl
  obtain ⟨hx, hb, hr, hml, hown, hnm, hlk, hts, hK, hE, hA⟩ := id ok
  exact lv_acmp_ne hx hb d ht (fun z => kt z ok H locs ls hp hd hS hk hn hl) (fun z => kf z ok H locs ls hp hd hS hk hn hl)
theorem v_goto {off : Int} {tgt : Nat} (d : decode cc pc = .ok (.goto off, 3)) (ht : (pc : Int) + off = (tgt : Int)) (kk : VV l E X cc own nm nL R ret P h k n tgt lv st) : VV l E X cc own nm nL R ret P h k n pc lv st := by
  obtain ⟨p, e, s, m, args, below, meth, c, A⟩ := X
  intro ok H locs ls hp hd hS hk hn hl
  obtain ⟨hx, hb, hr, hml, hown, hnm, hlk, hts, hK, hE, hA⟩ := id ok
  exact lv_goto hx hb d ht (kk ok H locs ls hp hd hS hk hn hl)
theorem v_tswIn {dflt lo hi off : Int} {offs : Array Int} {len tgt : Nat} {x : Int32} (d : decode cc pc = .ok (.tableswitch dflt lo hi offs, len)) (h1 : ¬ x.toInt < lo) (h2 : ¬ hi < x.toInt) (ho : offs[(x.toInt - lo).toNat]? = some off) (ht : (pc : Int) + off = (tgt : Int)) (kk : VV l E X cc own nm nL R ret P h k n tgt lv st) : VV l E X cc own nm nL R ret P h k n pc lv (.int x :: st) := by
  obtain ⟨p, e, s, m, args, below, meth, c, A⟩ := X
  intro ok H locs ls hp hd hS hk hn hl
  obtain ⟨hx, hb, hr, hml, hown, hnm, hlk, hts, hK, hE, hA⟩ := id ok
  exact lv_tableIn hx hb d h1 h2 ho ht (kk ok H locs ls hp hd hS hk hn hl)
theorem v_tswOut {dflt lo hi : Int} {offs : Array Int} {len tgt : Nat} {x : Int32} (d : decode cc pc = .ok (.tableswitch dflt lo hi offs, len)) (h1 : x.toInt < lo ∨ hi < x.toInt) (ht : (pc : Int) + dflt = (tgt : Int)) (kk : VV l E X cc own nm nL R ret P h k n tgt lv st) : VV l E X cc own nm nL R ret P h k n pc lv (.int x :: st) := by
  obtain ⟨p, e, s, m, args, below, meth, c, A⟩ := X
  intro ok H locs ls hp hd hS hk hn hl
  obtain ⟨hx, hb, hr, hml, hown, hnm, hlk, hts, hK, hE, hA⟩ := id ok
  exact lv_tableOut hx hb d h1 ht (kk ok H locs ls hp hd hS hk hn hl)
theorem v_iret {x : Int32} (d : decode cc pc = .ok (.ireturn, 1)) (hrt : ret = some .int) (hP : P (some (.int x)) h) : VV l E X cc own nm nL R ret P h k n pc lv [.int x] := by
  obtain ⟨p, e, s, m, args, below, meth, c, A⟩ := X
  intro ok H locs ls hp hd hS hk hn hl
  obtain ⟨hx, hb, hr, hml, hown, hnm, hlk, hts, hK, hE, hA⟩ := id ok
  refine W.widen hk hn ?_
  exact W.iret hx hb (hr.trans hrt) (fun t ht _ => ⟨⟨_, h, rfl, hP, by rw [ht]; exact hp, hd⟩, hS.F ht⟩) hS.2.2 d hlk
theorem v_zret {x : Int32} {ty : FieldType} (d : decode cc pc = .ok (.ireturn, 1)) (hrt : ret = some ty) (hn1 : narrow ty (.int x) = .int x) (hP : P (some (.int x)) h) : VV l E X cc own nm nL R ret P h k n pc lv [.int x] := by
  obtain ⟨p, e, s, m, args, below, meth, c, A⟩ := X
  intro ok H locs ls hp hd hS hk hn hl
  obtain ⟨hx, hb, hr, hml, hown, hnm, hlk, hts, hK, hE, hA⟩ := id ok
  refine W.widen hk hn ?_
  exact W.zret hx hb (hr.trans hrt) hn1 (fun t ht _ => ⟨⟨_, h, rfl, hP, by rw [ht]; exact hp, hd⟩, hS.F ht⟩) hS.2.2 d hlk
theorem v_lret {x : Int64} (d : decode cc pc = .ok (.lreturn, 1)) (hrt : ret = some .long) (hP : P (some (.long x)) h) : VV l E X cc own nm nL R ret P h k n pc lv [.long x] := by
  obtain ⟨p, e, s, m, args, below, meth, c, A⟩ := X
  intro ok H locs ls hp hd hS hk hn hl
  obtain ⟨hx, hb, hr, hml, hown, hnm, hlk, hts, hK, hE, hA⟩ := id ok
  refine W.widen hk hn ?_
  exact W.lret hx hb (hr.trans hrt) (fun t ht _ => ⟨⟨_, h, rfl, hP, by rw [ht]; exact hp, hd⟩, hS.F ht⟩) hS.2.2 d hlk
theorem v_aret {r : Option Nat} {rt : FieldType} (d : decode cc pc = .ok (.areturn, 1)) (hrt : ret = some rt) (hro : (∃ n, rt = .object n) ∨ ∃ t, rt = .array t) (hP : P (some (va_rf r)) h) : VV l E X cc own nm nL R ret P h k n pc lv [va_rf r] := by
  obtain ⟨p, e, s, m, args, below, meth, c, A⟩ := X
  intro ok H locs ls hp hd hS hk hn hl
  obtain ⟨hx, hb, hr, hml, hown, hnm, hlk, hts, hK, hE, hA⟩ := id ok
  refine W.widen hk hn ?_
  exact W.aret hx hb (hr.trans hrt) hro (va_rf_or r) (fun t ht _ => ⟨⟨_, h, rfl, hP, by rw [ht]; exact hp, hd⟩, hS.F ht⟩) hS.2.2 d hlk
theorem v_vret  (d : decode cc pc = .ok (.return_, 1)) (hrt : ret = none) (hP : P none h) : VV l E X cc own nm nL R ret P h k n pc lv [] := by
  obtain ⟨p, e, s, m, args, below, meth, c, A⟩ := X
  intro ok H locs ls hp hd hS hk hn hl
  obtain ⟨hx, hb, hr, hml, hown, hnm, hlk, hts, hK, hE, hA⟩ := id ok
  refine W.widen hk hn ?_
  exact W.vret hx hb (hr.trans hrt) (fun t ht _ => ⟨⟨_, h, rfl, hP, by rw [ht]; exact hp, hd⟩, hS.F ht⟩) hS.2.2 d hlk
theorem v_rf1 (r : Option Nat) : (va_rf r).category = 1 := by cases r <;> rfl
theorem v_rfn (C : String) (r : Option Nat) : narrow (.object C) (va_rf r) = va_rf r ∧ fits (.object C) (va_rf r) = true := by cases r <;> exact ⟨rfl, rfl⟩
theorem v_rfa (t : FieldType) (r : Option Nat) : narrow (.array t) (va_rf r) = va_rf r ∧ fits (.array t) (va_rf r) = true := by cases r <;> exact ⟨rfl, rfl⟩
theorem v_get {ci a idx N : Nat} {fs : List Value} {C ref : String} {T : u_T} {v : Value} (hin : ∀ w ∈ u_ws C T N, w ∈ lw_all) (hc : vcl[ci]? = some (C, T, N)) (f : Nat) (hf : f < N) (hlk1 : Cond.fieldLink own idx ref (T f).2.1 (T f).2.2.1 ∈ lw_all) (href : ref = (T f).1) (d : decode cc pc = .ok (.getfield idx, 3)) (ha : h a = some (.inr (ci, fs))) (hv : fs[f]? = some v) (kk : VV l E X cc own nm nL R ret P h k n (pc + 3) lv (v :: st)) : VV l E X cc own nm nL R ret P h k n pc lv (va_rf (some a) :: st) := by
  obtain ⟨p, e, s, m, args, below, meth, c, A⟩ := X
  intro ok H locs ls hp hd hS hk hn hl
  obtain ⟨hx, hb, hr, hml, hown, hnm, hlk, hts, hK, hE, hA⟩ := id ok
  have hlt := hp.lt ha
  obtain ⟨k0, hk0⟩ := wl_at (G := E.2.1) hlt ha
  exact va_get (D := E.1) (Ts := lw_all) hx hb hts hin hown hK (wl_P (n := H.size) hp) k0 hk0 hc f hf (hts _ hlk1) (fun _ h9 => by rw [href]; exact h9) hv d (kk ok H locs ls hp hd hS hk hn hl)
theorem v_getS {ci a idx N : Nat} {fs : List Value} {C ref : String} {T : u_T} {v : Value} (hin : ∀ w ∈ u_ws C T N, w ∈ lw_all) (hc : vcl[ci]? = some (C, T, N)) (f : Nat) (hf : f < N) (hlk1 : Cond.fieldLink own idx ref (T f).2.1 (T f).2.2.1 ∈ lw_all) (hsf : Cond.sameField ref (T f).1 (T f).2.1 (T f).2.2.1 ∈ lw_all) (d : decode cc pc = .ok (.getfield idx, 3)) (ha : h a = some (.inr (ci, fs))) (hv : fs[f]? = some v) (kk : VV l E X cc own nm nL R ret P h k n (pc + 3) lv (v :: st)) : VV l E X cc own nm nL R ret P h k n pc lv (va_rf (some a) :: st) := by
  obtain ⟨p, e, s, m, args, below, meth, c, A⟩ := X
  intro ok H locs ls hp hd hS hk hn hl
  obtain ⟨hx, hb, hr, hml, hown, hnm, hlk, hts, hK, hE, hA⟩ := id ok
  have hlt := hp.lt ha
  obtain ⟨k0, hk0⟩ := wl_at (G := E.2.1) hlt ha
  exact va_get (D := E.1) (Ts := lw_all) hx hb hts hin hown hK (wl_P (n := H.size) hp) k0 hk0 hc f hf (hts _ hlk1) (u_same (hts _ hsf)) hv d (kk ok H locs ls hp hd hS hk hn hl)
theorem v_getN {ci a idx N : Nat} {fs : List Value} {C ref : String} {T : u_T} {v : Value} (hin : ∀ w ∈ u_ws C T N, w ∈ lw_all) (hc : vcl[ci]? = some (C, T, N)) (f : Nat) (hf : f < N) {host : String} (hlk1 : Cond.fieldLinkNest own idx ref (T f).2.1 (T f).2.2.1 host ∈ lw_tbl) (href : ref = (T f).1) (d : decode cc pc = .ok (.getfield idx, 3)) (ha : h a = some (.inr (ci, fs))) (hv : fs[f]? = some v) (kk : VV l E X cc own nm nL R ret P h k n (pc + 3) lv (v :: st)) : VV l E X cc own nm nL R ret P h k n pc lv (va_rf (some a) :: st) := by
  obtain ⟨p, e, s, m, args, below, meth, c, A⟩ := X
  intro ok H locs ls hp hd hS hk hn hl
  obtain ⟨hx, hb, hr, hml, hown, hnm, hlk, hts, hK, hE, hA⟩ := id ok
  have hlt := hp.lt ha
  obtain ⟨k0, hk0⟩ := wl_at (G := E.2.1) hlt ha
  exact va_getN (D := E.1) (Ts := lw_all) hx hb hts hin hown hK (wl_P (n := H.size) hp) k0 hk0 hc f hf (va_Nw.use rfl (hE.1.1 _ _ _ _ _ _ hlk1)) (fun _ h9 => by rw [href]; exact h9) hv d (kk ok H locs ls hp hd hS hk hn hl)
theorem v_put {ci a idx N : Nat} {fs : List Value} {C ref : String} {T : u_T} {v : Value} {ty : FieldType} (hin : ∀ w ∈ u_ws C T N, w ∈ lw_all) (hc : vcl[ci]? = some (C, T, N)) (f : Nat) (hf : f < N) (ty0 : Nat → FieldType) (hty : ∀ k, k < N → parseFieldDescriptor (T k).2.2.1 = some (ty0 k)) (hnms : ∀ a, a < N → ∀ b, b < N → a ≠ b → (T a).2.1 ≠ (T b).2.1) (hlk1 : Cond.fieldLink own idx ref (T f).2.1 (T f).2.2.1 ∈ lw_all) (href : ref = (T f).1) (hfin : (T f).2.2.2 = false) (hds : ty0 f = ty) (hnv : narrow ty v = v) (hfit : fits ty v = true) (d : decode cc pc = .ok (.putfield idx, 3)) (ha : h a = some (.inr (ci, fs))) (hfl : f < fs.length) (kk : VV l E X cc own nm nL R ret P (va_up h a (some (.inr (ci, fs.set f v)))) k n (pc + 3) lv st) : VV l E X cc own nm nL R ret P h k n pc lv (v :: va_rf (some a) :: st) := by
  obtain ⟨p, e, s, m, args, below, meth, c, A⟩ := X
  intro ok H locs ls hp hd hS hk hn hl
  obtain ⟨hx, hb, hr, hml, hown, hnm, hlk, hts, hK, hE, hA⟩ := id ok
  have hlt := hp.lt ha
  obtain ⟨k0, hk0⟩ := wl_at (G := E.2.1) hlt ha
  exact va_put (D := E.1) (Ts := lw_all) hx hb hts hin ty0 hty hnms hown hK (wl_P (n := H.size) hp) (wl_D (n := H.size) hd) hS k0 hk0 hc f hf (hts _ hlk1) (fun _ h9 => by rw [href]; exact h9) hfin (by rw [hty f hf, hds]) hnv hfit hfl d (fun H1 locs1 hP1 hD1 hS1 => kk ok H1 locs1 ls (vset (e := .inr (ci, fs.set f v)) hp hk0 hP1) (vdom hd (hd a (by rw [ha]; exact Option.some_ne_none _))) hS1 hk hn hl)
theorem v_putS {ci a idx N : Nat} {fs : List Value} {C ref : String} {T : u_T} {v : Value} {ty : FieldType} (hin : ∀ w ∈ u_ws C T N, w ∈ lw_all) (hc : vcl[ci]? = some (C, T, N)) (f : Nat) (hf : f < N) (ty0 : Nat → FieldType) (hty : ∀ k, k < N → parseFieldDescriptor (T k).2.2.1 = some (ty0 k)) (hnms : ∀ a, a < N → ∀ b, b < N → a ≠ b → (T a).2.1 ≠ (T b).2.1) (hlk1 : Cond.fieldLink own idx ref (T f).2.1 (T f).2.2.1 ∈ lw_all) (hsf : Cond.sameField ref (T f).1 (T f).2.1 (T f).2.2.1 ∈ lw_all) (hfin : (T f).2.2.2 = false) (hds : ty0 f = ty) (hnv : narrow ty v = v) (hfit : fits ty v = true) (d : decode cc pc = .ok (.putfield idx, 3)) (ha : h a = some (.inr (ci, fs))) (hfl : f < fs.length) (kk : VV l E X cc own nm nL R ret P (va_up h a (some (.inr (ci, fs.set f v)))) k n (pc + 3) lv st) : VV l E X cc own nm nL R ret P h k n pc lv (v :: va_rf (some a) :: st) := by
  obtain ⟨p, e, s, m, args, below, meth, c, A⟩ := X
  intro ok H locs ls hp hd hS hk hn hl
  obtain ⟨hx, hb, hr, hml, hown, hnm, hlk, hts, hK, hE, hA⟩ := id ok
  have hlt := hp.lt ha
  obtain ⟨k0, hk0⟩ := wl_at (G := E.2.1) hlt ha
  exact va_put (D := E.1) (Ts := lw_all) hx hb hts hin ty0 hty hnms hown hK (wl_P (n := H.size) hp) (wl_D (n := H.size) hd) hS k0 hk0 hc f hf (hts _ hlk1) (u_same (hts _ hsf)) hfin (by rw [hty f hf, hds]) hnv hfit hfl d (fun H1 locs1 hP1 hD1 hS1 => kk ok H1 locs1 ls (vset (e := .inr (ci, fs.set f v)) hp hk0 hP1) (vdom hd (hd a (by rw [ha]; exact Option.some_ne_none _))) hS1 hk hn hl)
theorem v_putF {ci a idx N : Nat} {fs : List Value} {C ref : String} {T : u_T} {v : Value} {ty : FieldType} (hin : ∀ w ∈ u_ws C T N, w ∈ lw_all) (hc : vcl[ci]? = some (C, T, N)) (f : Nat) (hf : f < N) (ty0 : Nat → FieldType) (hty : ∀ k, k < N → parseFieldDescriptor (T k).2.2.1 = some (ty0 k)) (hnms : ∀ a, a < N → ∀ b, b < N → a ≠ b → (T a).2.1 ≠ (T b).2.1) (hlk1 : Cond.fieldLink own idx ref (T f).2.1 (T f).2.2.1 ∈ lw_all) (href : ref = (T f).1) (hfin : (T f).2.2.2 = true) (hnm1 : nm = "<init>") (hdecl : (T f).1 = own) (hds : ty0 f = ty) (hnv : narrow ty v = v) (hfit : fits ty v = true) (d : decode cc pc = .ok (.putfield idx, 3)) (ha : h a = some (.inr (ci, fs))) (hfl : f < fs.length) (kk : VV l E X cc own nm nL R ret P (va_up h a (some (.inr (ci, fs.set f v)))) k n (pc + 3) lv st) : VV l E X cc own nm nL R ret P h k n pc lv (v :: va_rf (some a) :: st) := by
  obtain ⟨p, e, s, m, args, below, meth, c, A⟩ := X
  intro ok H locs ls hp hd hS hk hn hl
  obtain ⟨hx, hb, hr, hml, hown, hnm, hlk, hts, hK, hE, hA⟩ := id ok
  have hlt := hp.lt ha
  obtain ⟨k0, hk0⟩ := wl_at (G := E.2.1) hlt ha
  exact va_putF (D := E.1) (Ts := lw_all) hx hb hts hin ty0 hty hnms hown hK (wl_P (n := H.size) hp) (wl_D (n := H.size) hd) hS k0 hk0 hc f hf (hts _ hlk1) (fun _ h9 => by rw [href]; exact h9) hfin (hnm.trans hnm1) hdecl (by rw [hty f hf, hds]) hnv hfit hfl d (fun H1 locs1 hP1 hD1 hS1 => kk ok H1 locs1 ls (vset (e := .inr (ci, fs.set f v)) hp hk0 hP1) (vdom hd (hd a (by rw [ha]; exact Option.some_ne_none _))) hS1 hk hn hl)
theorem v_putN {ci a idx N : Nat} {fs : List Value} {C ref : String} {T : u_T} {v : Value} {ty : FieldType} (hin : ∀ w ∈ u_ws C T N, w ∈ lw_all) (hc : vcl[ci]? = some (C, T, N)) (f : Nat) (hf : f < N) (ty0 : Nat → FieldType) (hty : ∀ k, k < N → parseFieldDescriptor (T k).2.2.1 = some (ty0 k)) (hnms : ∀ a, a < N → ∀ b, b < N → a ≠ b → (T a).2.1 ≠ (T b).2.1) {host : String} (hlk1 : Cond.fieldLinkNest own idx ref (T f).2.1 (T f).2.2.1 host ∈ lw_tbl) (href : ref = (T f).1) (hfin : (T f).2.2.2 = false) (hds : ty0 f = ty) (hnv : narrow ty v = v) (hfit : fits ty v = true) (d : decode cc pc = .ok (.putfield idx, 3)) (ha : h a = some (.inr (ci, fs))) (hfl : f < fs.length) (kk : VV l E X cc own nm nL R ret P (va_up h a (some (.inr (ci, fs.set f v)))) k n (pc + 3) lv st) : VV l E X cc own nm nL R ret P h k n pc lv (v :: va_rf (some a) :: st) := by
  obtain ⟨p, e, s, m, args, below, meth, c, A⟩ := X
  intro ok H locs ls hp hd hS hk hn hl
  obtain ⟨hx, hb, hr, hml, hown, hnm, hlk, hts, hK, hE, hA⟩ := id ok
  have hlt := hp.lt ha
  obtain ⟨k0, hk0⟩ := wl_at (G := E.2.1) hlt ha
  exact va_putN (D := E.1) (Ts := lw_all) hx hb hts hin ty0 hty hnms hown hK (wl_P (n := H.size) hp) (wl_D (n := H.size) hd) hS k0 hk0 hc f hf (va_Nw.use rfl (hE.1.1 _ _ _ _ _ _ hlk1)) (fun _ h9 => by rw [href]; exact h9) hfin (by rw [hty f hf, hds]) hnv hfit hfl d (fun H1 locs1 hP1 hD1 hS1 => kk ok H1 locs1 ls (vset (e := .inr (ci, fs.set f v)) hp hk0 hP1) (vdom hd (hd a (by rw [ha]; exact Option.some_ne_none _))) hS1 hk hn hl)
theorem v_new {ci idx N : Nat} {fs : List Value} {C : String} {T : u_T} (hin : ∀ w ∈ u_ws C T N, w ∈ lw_all) (hc : vcl[ci]? = some (C, T, N)) (ty0 : Nat → FieldType) (hty : ∀ k, k < N → parseFieldDescriptor (T k).2.2.1 = some (ty0 k)) (hq1 : Cond.classLink own idx C ∈ lw_all) (hq2 : Cond.instantiable C N ∈ lw_all) (hq3 : Cond.initialized C ∈ lw_all) (hfs : ∀ j, j < N → defaultValue (ty0 j) = vp_V fs j) (hc1 : k + 1 ≤ R.cells) (hc2 : n + N ≤ R.slots) (d : decode cc pc = .ok (.new idx, 3)) (kk : ∀ q : Nat, h q = none → VV l E X cc own nm nL R ret P (va_up h q (some (.inr (ci, fs)))) (k + 1) (n + N) (pc + 3) lv (va_rf (some q) :: st)) : VV l E X cc own nm nL R ret P h k n pc lv st := by
  obtain ⟨p, e, s, m, args, below, meth, c, A⟩ := X
  intro ok H locs ls hp hd hS hk hn hl
  obtain ⟨hx, hb, hr, hml, hown, hnm, hlk, hts, hK, hE, hA⟩ := id ok
  refine va_new (D := E.1) (Ts := lw_all) hx hb hts hin ty0 hty hown (hts _ hq1) (hts _ hq2) (hts _ hq3) hK (wl_P (n := H.size) hp) (wl_D (n := H.size) hd) hS hA hc hfs hc1 hc2 d (fun q H1 hP1 hD1 hS1 => ?_)
  obtain ⟨g1, g2, g3⟩ := vpush (e := .inr (ci, fs)) hp hP1 hD1
  exact kk q g1 ok H1 locs ls g2 (vdom hd g3) hS1 hc1 hc2 hl
theorem v_raG {s : State} {tt : Nat} {ty : FieldType} (hK : vK E s) (ht : (vtys E.2.1)[tt]? = some (E.2.1 tt, ty)) (hnot : ∀ C, ty ≠ .object C) {cA : ClassId} (h1 : va_RA s cA ty) : cA = E.2.1 tt := by
  have h2 := (hK.2 tt _ ht).2
  cases ty with
  | object C => exact absurd rfl (hnot C)
  | _ => exact Option.some.inj (h1.symm.trans h2)
theorem v_raO {s : State} {tt : Nat} {C : String} (hK : vK E s) (ht : (vtys E.2.1)[tt]? = some (E.2.1 tt, .object C)) {cA : ClassId} (h1 : va_RA s cA (.object C)) : cA = E.2.1 tt := by
  obtain ⟨_, _, _, _, _, h2⟩ := (hK.2 tt _ ht).2
  obtain ⟨_, _, _, _, _, h3⟩ := h1
  exact Option.some.inj (h3.symm.trans h2)
theorem v_lastK {s : State} {tys : List (ClassId × FieldType)} {D : va_G} {cA : ClassId} {ty : FieldType} (hK : va_K D vcl (tys ++ [(cA, ty)]) s) : va_RA s cA ty :=
  (hK.2 tys.length (cA, ty) (by rw [List.getElem?_append_right (Nat.le_refl _), Nat.sub_self]; rfl)).2
theorem v_newaI {x : Int32} {N1 : Nat} (hq1 : Cond.arrayClass .int ∈ lw_all) (hx0 : ¬ x < 0) (hN1 : x.toNatClampNeg = N1) (hby : N1 * componentBytes .int ≤ 536870912) (hc1 : k + 1 ≤ R.cells) (hc2 : n + N1 ≤ R.slots) (d : decode cc pc = .ok (.newarray .int, 2)) (kk : ∀ q : Nat, h q = none → VV l E X cc own nm nL R ret P (va_up h q (some (.inl (0, N1, .inl (fun _ => 0))))) (k + 1) (n + N1) (pc + 2) lv (va_rf (some q) :: st)) : VV l E X cc own nm nL R ret P h k n pc lv (.int x :: st) := by
  obtain ⟨p, e, s, m, args, below, meth, c, A⟩ := X
  intro ok H locs ls hp hd hS hk hn hl
  obtain ⟨hx, hb, hr, hml, hown, hnm, hlk, hts, hK, hE, hA⟩ := id ok
  refine va_newa (D := E.1) (atype := .int) (ty := .int) (a0 := (N1, .inl (fun _ => 0))) hx hb (hts _ hq1) rfl hK (wl_P (n := H.size) hp) (wl_D (n := H.size) hd) hS hA (fun _ => rfl) hx0 hN1 hby hc1 hc2 d (fun q cA H1 hK1 hP1 hD1 hS1 => ?_)
  obtain rfl : cA = E.2.1 0 := v_raG hK rfl (fun _ z => by cases z) (v_lastK hK1)
  obtain ⟨g1, g2, g3⟩ := vpush (e := .inl (0, N1, .inl (fun _ => 0))) hp hP1 hD1
  exact kk q g1 ok H1 locs ls g2 (vdom hd g3) hS1 hc1 hc2 hl
theorem v_newaL {x : Int32} {N1 : Nat} (hq1 : Cond.arrayClass .long ∈ lw_all) (hx0 : ¬ x < 0) (hN1 : x.toNatClampNeg = N1) (hby : N1 * componentBytes .long ≤ 536870912) (hc1 : k + 1 ≤ R.cells) (hc2 : n + N1 ≤ R.slots) (d : decode cc pc = .ok (.newarray .long, 2)) (kk : ∀ q : Nat, h q = none → VV l E X cc own nm nL R ret P (va_up h q (some (.inl (1, N1, .inr (.inl (fun _ => 0)))))) (k + 1) (n + N1) (pc + 2) lv (va_rf (some q) :: st)) : VV l E X cc own nm nL R ret P h k n pc lv (.int x :: st) := by
  obtain ⟨p, e, s, m, args, below, meth, c, A⟩ := X
  intro ok H locs ls hp hd hS hk hn hl
  obtain ⟨hx, hb, hr, hml, hown, hnm, hlk, hts, hK, hE, hA⟩ := id ok
  refine va_newa (D := E.1) (atype := .long) (ty := .long) (a0 := (N1, .inr (.inl (fun _ => 0)))) hx hb (hts _ hq1) rfl hK (wl_P (n := H.size) hp) (wl_D (n := H.size) hd) hS hA (fun _ => rfl) hx0 hN1 hby hc1 hc2 d (fun q cA H1 hK1 hP1 hD1 hS1 => ?_)
  obtain rfl : cA = E.2.1 1 := v_raG hK rfl (fun _ z => by cases z) (v_lastK hK1)
  obtain ⟨g1, g2, g3⟩ := vpush (e := .inl (1, N1, .inr (.inl (fun _ => 0)))) hp hP1 hD1
  exact kk q g1 ok H1 locs ls g2 (vdom hd g3) hS1 hc1 hc2 hl
theorem v_newaB {x : Int32} {N1 : Nat} (hq1 : Cond.arrayClass .byte ∈ lw_all) (hx0 : ¬ x < 0) (hN1 : x.toNatClampNeg = N1) (hby : N1 * componentBytes .byte ≤ 536870912) (hc1 : k + 1 ≤ R.cells) (hc2 : n + N1 ≤ R.slots) (d : decode cc pc = .ok (.newarray .byte, 2)) (kk : ∀ q : Nat, h q = none → VV l E X cc own nm nL R ret P (va_up h q (some (.inl (2, N1, .inl (fun _ => 0))))) (k + 1) (n + N1) (pc + 2) lv (va_rf (some q) :: st)) : VV l E X cc own nm nL R ret P h k n pc lv (.int x :: st) := by
  obtain ⟨p, e, s, m, args, below, meth, c, A⟩ := X
  intro ok H locs ls hp hd hS hk hn hl
  obtain ⟨hx, hb, hr, hml, hown, hnm, hlk, hts, hK, hE, hA⟩ := id ok
  refine va_newa (D := E.1) (atype := .byte) (ty := .byte) (a0 := (N1, .inl (fun _ => 0))) hx hb (hts _ hq1) rfl hK (wl_P (n := H.size) hp) (wl_D (n := H.size) hd) hS hA (fun _ => rfl) hx0 hN1 hby hc1 hc2 d (fun q cA H1 hK1 hP1 hD1 hS1 => ?_)
  obtain rfl : cA = E.2.1 2 := v_raG hK rfl (fun _ z => by cases z) (v_lastK hK1)
  obtain ⟨g1, g2, g3⟩ := vpush (e := .inl (2, N1, .inl (fun _ => 0))) hp hP1 hD1
  exact kk q g1 ok H1 locs ls g2 (vdom hd g3) hS1 hc1 hc2 hl
theorem v_newaS {x : Int32} {N1 : Nat} (hq1 : Cond.arrayClass .short ∈ lw_all) (hx0 : ¬ x < 0) (hN1 : x.toNatClampNeg = N1) (hby : N1 * componentBytes .short ≤ 536870912) (hc1 : k + 1 ≤ R.cells) (hc2 : n + N1 ≤ R.slots) (d : decode cc pc = .ok (.newarray .short, 2)) (kk : ∀ q : Nat, h q = none → VV l E X cc own nm nL R ret P (va_up h q (some (.inl (3, N1, .inl (fun _ => 0))))) (k + 1) (n + N1) (pc + 2) lv (va_rf (some q) :: st)) : VV l E X cc own nm nL R ret P h k n pc lv (.int x :: st) := by
  obtain ⟨p, e, s, m, args, below, meth, c, A⟩ := X
  intro ok H locs ls hp hd hS hk hn hl
  obtain ⟨hx, hb, hr, hml, hown, hnm, hlk, hts, hK, hE, hA⟩ := id ok
  refine va_newa (D := E.1) (atype := .short) (ty := .short) (a0 := (N1, .inl (fun _ => 0))) hx hb (hts _ hq1) rfl hK (wl_P (n := H.size) hp) (wl_D (n := H.size) hd) hS hA (fun _ => rfl) hx0 hN1 hby hc1 hc2 d (fun q cA H1 hK1 hP1 hD1 hS1 => ?_)
  obtain rfl : cA = E.2.1 3 := v_raG hK rfl (fun _ z => by cases z) (v_lastK hK1)
  obtain ⟨g1, g2, g3⟩ := vpush (e := .inl (3, N1, .inl (fun _ => 0))) hp hP1 hD1
  exact kk q g1 ok H1 locs ls g2 (vdom hd g3) hS1 hc1 hc2 hl
theorem v_newaZ {x : Int32} {N1 : Nat} (hq1 : Cond.arrayClass .boolean ∈ lw_all) (hx0 : ¬ x < 0) (hN1 : x.toNatClampNeg = N1) (hby : N1 * componentBytes .boolean ≤ 536870912) (hc1 : k + 1 ≤ R.cells) (hc2 : n + N1 ≤ R.slots) (d : decode cc pc = .ok (.newarray .boolean, 2)) (kk : ∀ q : Nat, h q = none → VV l E X cc own nm nL R ret P (va_up h q (some (.inl (4, N1, .inl (fun _ => 0))))) (k + 1) (n + N1) (pc + 2) lv (va_rf (some q) :: st)) : VV l E X cc own nm nL R ret P h k n pc lv (.int x :: st) := by
  obtain ⟨p, e, s, m, args, below, meth, c, A⟩ := X
  intro ok H locs ls hp hd hS hk hn hl
  obtain ⟨hx, hb, hr, hml, hown, hnm, hlk, hts, hK, hE, hA⟩ := id ok
  refine va_newa (D := E.1) (atype := .boolean) (ty := .boolean) (a0 := (N1, .inl (fun _ => 0))) hx hb (hts _ hq1) rfl hK (wl_P (n := H.size) hp) (wl_D (n := H.size) hd) hS hA (fun _ => rfl) hx0 hN1 hby hc1 hc2 d (fun q cA H1 hK1 hP1 hD1 hS1 => ?_)
  obtain rfl : cA = E.2.1 4 := v_raG hK rfl (fun _ z => by cases z) (v_lastK hK1)
  obtain ⟨g1, g2, g3⟩ := vpush (e := .inl (4, N1, .inl (fun _ => 0))) hp hP1 hD1
  exact kk q g1 ok H1 locs ls g2 (vdom hd g3) hS1 hc1 hc2 hl
theorem v_newqO {x : Int32} {idx N1 : Nat} (hq1 : Cond.classLink own idx "java/lang/Object" ∈ lw_all) (hq2 : Cond.arrayOver (.object "java/lang/Object") ∈ lw_tbl) (hx0 : ¬ x < 0) (hN1 : x.toNatClampNeg = N1) (hby : N1 * 4 ≤ 536870912) (hc1 : k + 1 ≤ R.cells) (hc2 : n + N1 ≤ R.slots) (d : decode cc pc = .ok (.anewarray idx, 3)) (kk : ∀ q : Nat, h q = none → VV l E X cc own nm nL R ret P (va_up h q (some (.inl (5, N1, .inr (.inr (.inr (.inr (fun _ => none)))))))) (k + 1) (n + N1) (pc + 3) lv (va_rf (some q) :: st)) : VV l E X cc own nm nL R ret P h k n pc lv (.int x :: st) := by
  obtain ⟨p, e, s, m, args, below, meth, c, A⟩ := X
  intro ok H locs ls hp hd hS hk hn hl
  obtain ⟨hx, hb, hr, hml, hown, hnm, hlk, hts, hK, hE, hA⟩ := id ok
  refine va_newq (D := E.1) (C := "java/lang/Object") hx hb hown (hts _ hq1) (hE.1.2.2.2.1 _ hq2) hK (wl_P (n := H.size) hp) (wl_D (n := H.size) hd) hS hA hx0 hN1 hby hc1 hc2 d (fun q cA H1 hK1 hP1 hD1 hS1 => ?_)
  obtain rfl : cA = E.2.1 5 := v_raO hK rfl (v_lastK hK1)
  obtain ⟨g1, g2, g3⟩ := vpush (e := .inl (5, N1, .inr (.inr (.inr (.inr (fun _ => none)))))) hp hP1 hD1
  exact kk q g1 ok H1 locs ls g2 (vdom hd g3) hS1 hc1 hc2 hl
theorem v_newqP {x : Int32} {idx N1 : Nat} (hq1 : Cond.classLink own idx "NobodysBard$Phrase" ∈ lw_all) (hq2 : Cond.arrayOver (.object "NobodysBard$Phrase") ∈ lw_tbl) (hx0 : ¬ x < 0) (hN1 : x.toNatClampNeg = N1) (hby : N1 * 4 ≤ 536870912) (hc1 : k + 1 ≤ R.cells) (hc2 : n + N1 ≤ R.slots) (d : decode cc pc = .ok (.anewarray idx, 3)) (kk : ∀ q : Nat, h q = none → VV l E X cc own nm nL R ret P (va_up h q (some (.inl (6, N1, .inr (.inr (.inr (.inr (fun _ => none)))))))) (k + 1) (n + N1) (pc + 3) lv (va_rf (some q) :: st)) : VV l E X cc own nm nL R ret P h k n pc lv (.int x :: st) := by
  obtain ⟨p, e, s, m, args, below, meth, c, A⟩ := X
  intro ok H locs ls hp hd hS hk hn hl
  obtain ⟨hx, hb, hr, hml, hown, hnm, hlk, hts, hK, hE, hA⟩ := id ok
  refine va_newq (D := E.1) (C := "NobodysBard$Phrase") hx hb hown (hts _ hq1) (hE.1.2.2.2.1 _ hq2) hK (wl_P (n := H.size) hp) (wl_D (n := H.size) hd) hS hA hx0 hN1 hby hc1 hc2 d (fun q cA H1 hK1 hP1 hD1 hS1 => ?_)
  obtain rfl : cA = E.2.1 6 := v_raO hK rfl (v_lastK hK1)
  obtain ⟨g1, g2, g3⟩ := vpush (e := .inl (6, N1, .inr (.inr (.inr (.inr (fun _ => none)))))) hp hP1 hD1
  exact kk q g1 ok H1 locs ls g2 (vdom hd g3) hS1 hc1 hc2 hl
theorem v_newqS {x : Int32} {idx N1 : Nat} (hq1 : Cond.classLink own idx "NobodysBard$State" ∈ lw_all) (hq2 : Cond.arrayOver (.object "NobodysBard$State") ∈ lw_tbl) (hx0 : ¬ x < 0) (hN1 : x.toNatClampNeg = N1) (hby : N1 * 4 ≤ 536870912) (hc1 : k + 1 ≤ R.cells) (hc2 : n + N1 ≤ R.slots) (d : decode cc pc = .ok (.anewarray idx, 3)) (kk : ∀ q : Nat, h q = none → VV l E X cc own nm nL R ret P (va_up h q (some (.inl (7, N1, .inr (.inr (.inr (.inr (fun _ => none)))))))) (k + 1) (n + N1) (pc + 3) lv (va_rf (some q) :: st)) : VV l E X cc own nm nL R ret P h k n pc lv (.int x :: st) := by
  obtain ⟨p, e, s, m, args, below, meth, c, A⟩ := X
  intro ok H locs ls hp hd hS hk hn hl
  obtain ⟨hx, hb, hr, hml, hown, hnm, hlk, hts, hK, hE, hA⟩ := id ok
  refine va_newq (D := E.1) (C := "NobodysBard$State") hx hb hown (hts _ hq1) (hE.1.2.2.2.1 _ hq2) hK (wl_P (n := H.size) hp) (wl_D (n := H.size) hd) hS hA hx0 hN1 hby hc1 hc2 d (fun q cA H1 hK1 hP1 hD1 hS1 => ?_)
  obtain rfl : cA = E.2.1 7 := v_raO hK rfl (v_lastK hK1)
  obtain ⟨g1, g2, g3⟩ := vpush (e := .inl (7, N1, .inr (.inr (.inr (.inr (fun _ => none)))))) hp hP1 hD1
  exact kk q g1 ok H1 locs ls g2 (vdom hd g3) hS1 hc1 hc2 hl
theorem v_newqR {x : Int32} {idx N1 : Nat} (hq1 : Cond.classLink own idx "NobodysBard$Row" ∈ lw_all) (hq2 : Cond.arrayOver (.object "NobodysBard$Row") ∈ lw_tbl) (hx0 : ¬ x < 0) (hN1 : x.toNatClampNeg = N1) (hby : N1 * 4 ≤ 536870912) (hc1 : k + 1 ≤ R.cells) (hc2 : n + N1 ≤ R.slots) (d : decode cc pc = .ok (.anewarray idx, 3)) (kk : ∀ q : Nat, h q = none → VV l E X cc own nm nL R ret P (va_up h q (some (.inl (8, N1, .inr (.inr (.inr (.inr (fun _ => none)))))))) (k + 1) (n + N1) (pc + 3) lv (va_rf (some q) :: st)) : VV l E X cc own nm nL R ret P h k n pc lv (.int x :: st) := by
  obtain ⟨p, e, s, m, args, below, meth, c, A⟩ := X
  intro ok H locs ls hp hd hS hk hn hl
  obtain ⟨hx, hb, hr, hml, hown, hnm, hlk, hts, hK, hE, hA⟩ := id ok
  refine va_newq (D := E.1) (C := "NobodysBard$Row") hx hb hown (hts _ hq1) (hE.1.2.2.2.1 _ hq2) hK (wl_P (n := H.size) hp) (wl_D (n := H.size) hd) hS hA hx0 hN1 hby hc1 hc2 d (fun q cA H1 hK1 hP1 hD1 hS1 => ?_)
  obtain rfl : cA = E.2.1 8 := v_raO hK rfl (v_lastK hK1)
  obtain ⟨g1, g2, g3⟩ := vpush (e := .inl (8, N1, .inr (.inr (.inr (.inr (fun _ => none)))))) hp hP1 hD1
  exact kk q g1 ok H1 locs ls g2 (vdom hd g3) hS1 hc1 hc2 hl
theorem v_iald {a N1 : Nat} {i : Int32} {g : Nat → Int32} (d : decode cc pc = .ok (.iaload, 1)) (ha : h a = some (.inl (0, N1, .inl g))) (hi : vp_in i N1) (kk : VV l E X cc own nm nL R ret P h k n (pc + 1) lv (.int (g i.toNatClampNeg) :: st)) : VV l E X cc own nm nL R ret P h k n pc lv (.int i :: va_rf (some a) :: st) := by
  obtain ⟨p, e, s, m, args, below, meth, c, A⟩ := X
  intro ok H locs ls hp hd hS hk hn hl
  obtain ⟨hx, hb, hr, hml, hown, hnm, hlk, hts, hK, hE, hA⟩ := id ok
  have hlt := hp.lt ha
  obtain ⟨k0, hk0⟩ := wl_at (G := E.2.1) hlt ha
  exact va_iald (D := E.1) hx hb hK (wl_P (n := H.size) hp) k0 0 hk0 rfl hi d (kk ok H locs ls hp hd hS hk hn hl)
theorem v_bald {a N1 : Nat} {i : Int32} {g : Nat → Int32} (d : decode cc pc = .ok (.baload, 1)) (ha : h a = some (.inl (2, N1, .inl g))) (hi : vp_in i N1) (kk : VV l E X cc own nm nL R ret P h k n (pc + 1) lv (.int (g i.toNatClampNeg) :: st)) : VV l E X cc own nm nL R ret P h k n pc lv (.int i :: va_rf (some a) :: st) := by
  obtain ⟨p, e, s, m, args, below, meth, c, A⟩ := X
  intro ok H locs ls hp hd hS hk hn hl
  obtain ⟨hx, hb, hr, hml, hown, hnm, hlk, hts, hK, hE, hA⟩ := id ok
  have hlt := hp.lt ha
  obtain ⟨k0, hk0⟩ := wl_at (G := E.2.1) hlt ha
  exact va_bald (D := E.1) hx hb hK (wl_P (n := H.size) hp) k0 2 hk0 rfl hi d (kk ok H locs ls hp hd hS hk hn hl)
theorem v_sald {a N1 : Nat} {i : Int32} {g : Nat → Int32} (d : decode cc pc = .ok (.saload, 1)) (ha : h a = some (.inl (3, N1, .inl g))) (hi : vp_in i N1) (kk : VV l E X cc own nm nL R ret P h k n (pc + 1) lv (.int (g i.toNatClampNeg) :: st)) : VV l E X cc own nm nL R ret P h k n pc lv (.int i :: va_rf (some a) :: st) := by
  obtain ⟨p, e, s, m, args, below, meth, c, A⟩ := X
  intro ok H locs ls hp hd hS hk hn hl
  obtain ⟨hx, hb, hr, hml, hown, hnm, hlk, hts, hK, hE, hA⟩ := id ok
  have hlt := hp.lt ha
  obtain ⟨k0, hk0⟩ := wl_at (G := E.2.1) hlt ha
  exact va_sald (D := E.1) hx hb hK (wl_P (n := H.size) hp) k0 3 hk0 rfl hi d (kk ok H locs ls hp hd hS hk hn hl)
theorem v_zald {a N1 : Nat} {i : Int32} {g : Nat → Int32} (d : decode cc pc = .ok (.baload, 1)) (ha : h a = some (.inl (4, N1, .inl g))) (hi : vp_in i N1) (kk : VV l E X cc own nm nL R ret P h k n (pc + 1) lv (.int (g i.toNatClampNeg) :: st)) : VV l E X cc own nm nL R ret P h k n pc lv (.int i :: va_rf (some a) :: st) := by
  obtain ⟨p, e, s, m, args, below, meth, c, A⟩ := X
  intro ok H locs ls hp hd hS hk hn hl
  obtain ⟨hx, hb, hr, hml, hown, hnm, hlk, hts, hK, hE, hA⟩ := id ok
  have hlt := hp.lt ha
  obtain ⟨k0, hk0⟩ := wl_at (G := E.2.1) hlt ha
  exact va_zald (D := E.1) hx hb hK (wl_P (n := H.size) hp) k0 4 hk0 rfl hi d (kk ok H locs ls hp hd hS hk hn hl)
theorem v_lald {a N1 : Nat} {i : Int32} {g : Nat → Int64} (d : decode cc pc = .ok (.laload, 1)) (ha : h a = some (.inl (1, N1, .inr (.inl g)))) (hi : vp_in i N1) (kk : VV l E X cc own nm nL R ret P h k n (pc + 1) lv (.long (g i.toNatClampNeg) :: st)) : VV l E X cc own nm nL R ret P h k n pc lv (.int i :: va_rf (some a) :: st) := by
  obtain ⟨p, e, s, m, args, below, meth, c, A⟩ := X
  intro ok H locs ls hp hd hS hk hn hl
  obtain ⟨hx, hb, hr, hml, hown, hnm, hlk, hts, hK, hE, hA⟩ := id ok
  have hlt := hp.lt ha
  obtain ⟨k0, hk0⟩ := wl_at (G := E.2.1) hlt ha
  exact va_lald (D := E.1) hx hb hK (wl_P (n := H.size) hp) k0 1 hk0 rfl hi d (kk ok H locs ls hp hd hS hk hn hl)
theorem v_iast {a N1 : Nat} {i : Int32} {x : Int32} {g : Nat → Int32} (d : decode cc pc = .ok (.iastore, 1)) (ha : h a = some (.inl (0, N1, .inl g))) (hi : vp_in i N1) (kk : VV l E X cc own nm nL R ret P (va_up h a (some (.inl (0, N1, .inl (upd g i.toNatClampNeg x))))) k n (pc + 1) lv st) : VV l E X cc own nm nL R ret P h k n pc lv (.int x :: .int i :: va_rf (some a) :: st) := by
  obtain ⟨p, e, s, m, args, below, meth, c, A⟩ := X
  intro ok H locs ls hp hd hS hk hn hl
  obtain ⟨hx, hb, hr, hml, hown, hnm, hlk, hts, hK, hE, hA⟩ := id ok
  have hlt := hp.lt ha
  obtain ⟨k0, hk0⟩ := wl_at (G := E.2.1) hlt ha
  exact va_iast (D := E.1) hx hb hK (wl_P (n := H.size) hp) (wl_D (n := H.size) hd) hS k0 0 hk0 rfl hi d (fun H1 locs1 hP1 hD1 hS1 => kk ok H1 locs1 ls (vset (e := .inl (0, N1, .inl (upd g i.toNatClampNeg x))) hp hk0 hP1) (vdom hd (hd a (by rw [ha]; exact Option.some_ne_none _))) hS1 hk hn hl)
theorem v_bast {a N1 : Nat} {i : Int32} {x : Int32} {g : Nat → Int32} (d : decode cc pc = .ok (.bastore, 1)) (ha : h a = some (.inl (2, N1, .inl g))) (hi : vp_in i N1) (kk : VV l E X cc own nm nL R ret P (va_up h a (some (.inl (2, N1, .inl (upd g i.toNatClampNeg (vp_nar .byte x)))))) k n (pc + 1) lv st) : VV l E X cc own nm nL R ret P h k n pc lv (.int x :: .int i :: va_rf (some a) :: st) := by
  obtain ⟨p, e, s, m, args, below, meth, c, A⟩ := X
  intro ok H locs ls hp hd hS hk hn hl
  obtain ⟨hx, hb, hr, hml, hown, hnm, hlk, hts, hK, hE, hA⟩ := id ok
  have hlt := hp.lt ha
  obtain ⟨k0, hk0⟩ := wl_at (G := E.2.1) hlt ha
  exact va_bast (D := E.1) hx hb hK (wl_P (n := H.size) hp) (wl_D (n := H.size) hd) hS k0 2 hk0 rfl hi d (fun H1 locs1 hP1 hD1 hS1 => kk ok H1 locs1 ls (vset (e := .inl (2, N1, .inl (upd g i.toNatClampNeg (vp_nar .byte x)))) hp hk0 hP1) (vdom hd (hd a (by rw [ha]; exact Option.some_ne_none _))) hS1 hk hn hl)
theorem v_sast {a N1 : Nat} {i : Int32} {x : Int32} {g : Nat → Int32} (d : decode cc pc = .ok (.sastore, 1)) (ha : h a = some (.inl (3, N1, .inl g))) (hi : vp_in i N1) (kk : VV l E X cc own nm nL R ret P (va_up h a (some (.inl (3, N1, .inl (upd g i.toNatClampNeg (vp_nar .short x)))))) k n (pc + 1) lv st) : VV l E X cc own nm nL R ret P h k n pc lv (.int x :: .int i :: va_rf (some a) :: st) := by
  obtain ⟨p, e, s, m, args, below, meth, c, A⟩ := X
  intro ok H locs ls hp hd hS hk hn hl
  obtain ⟨hx, hb, hr, hml, hown, hnm, hlk, hts, hK, hE, hA⟩ := id ok
  have hlt := hp.lt ha
  obtain ⟨k0, hk0⟩ := wl_at (G := E.2.1) hlt ha
  exact va_sast (D := E.1) hx hb hK (wl_P (n := H.size) hp) (wl_D (n := H.size) hd) hS k0 3 hk0 rfl hi d (fun H1 locs1 hP1 hD1 hS1 => kk ok H1 locs1 ls (vset (e := .inl (3, N1, .inl (upd g i.toNatClampNeg (vp_nar .short x)))) hp hk0 hP1) (vdom hd (hd a (by rw [ha]; exact Option.some_ne_none _))) hS1 hk hn hl)
theorem v_zast {a N1 : Nat} {i : Int32} {x : Int32} {g : Nat → Int32} (d : decode cc pc = .ok (.bastore, 1)) (ha : h a = some (.inl (4, N1, .inl g))) (hi : vp_in i N1) (kk : VV l E X cc own nm nL R ret P (va_up h a (some (.inl (4, N1, .inl (upd g i.toNatClampNeg (vp_nar .boolean x)))))) k n (pc + 1) lv st) : VV l E X cc own nm nL R ret P h k n pc lv (.int x :: .int i :: va_rf (some a) :: st) := by
  obtain ⟨p, e, s, m, args, below, meth, c, A⟩ := X
  intro ok H locs ls hp hd hS hk hn hl
  obtain ⟨hx, hb, hr, hml, hown, hnm, hlk, hts, hK, hE, hA⟩ := id ok
  have hlt := hp.lt ha
  obtain ⟨k0, hk0⟩ := wl_at (G := E.2.1) hlt ha
  exact va_zast (D := E.1) hx hb hK (wl_P (n := H.size) hp) (wl_D (n := H.size) hd) hS k0 4 hk0 rfl hi d (fun H1 locs1 hP1 hD1 hS1 => kk ok H1 locs1 ls (vset (e := .inl (4, N1, .inl (upd g i.toNatClampNeg (vp_nar .boolean x)))) hp hk0 hP1) (vdom hd (hd a (by rw [ha]; exact Option.some_ne_none _))) hS1 hk hn hl)
theorem v_last {a N1 : Nat} {i : Int32} {x : Int64} {g : Nat → Int64} (d : decode cc pc = .ok (.lastore, 1)) (ha : h a = some (.inl (1, N1, .inr (.inl g)))) (hi : vp_in i N1) (kk : VV l E X cc own nm nL R ret P (va_up h a (some (.inl (1, N1, .inr (.inl (vp_updL g i.toNatClampNeg x)))))) k n (pc + 1) lv st) : VV l E X cc own nm nL R ret P h k n pc lv (.long x :: .int i :: va_rf (some a) :: st) := by
  obtain ⟨p, e, s, m, args, below, meth, c, A⟩ := X
  intro ok H locs ls hp hd hS hk hn hl
  obtain ⟨hx, hb, hr, hml, hown, hnm, hlk, hts, hK, hE, hA⟩ := id ok
  have hlt := hp.lt ha
  obtain ⟨k0, hk0⟩ := wl_at (G := E.2.1) hlt ha
  exact va_last (D := E.1) hx hb hK (wl_P (n := H.size) hp) (wl_D (n := H.size) hd) hS k0 1 hk0 rfl hi d (fun H1 locs1 hP1 hD1 hS1 => kk ok H1 locs1 ls (vset (e := .inl (1, N1, .inr (.inl (vp_updL g i.toNatClampNeg x)))) hp hk0 hP1) (vdom hd (hd a (by rw [ha]; exact Option.some_ne_none _))) hS1 hk hn hl)
theorem v_aaldO {a N1 : Nat} {i : Int32} {g : Nat → Option Nat} (d : decode cc pc = .ok (.aaload, 1)) (ha : h a = some (.inl (5, N1, .inr (.inr (.inr (.inr g)))))) (hi : vp_in i N1) (kk : VV l E X cc own nm nL R ret P h k n (pc + 1) lv (va_rf (g i.toNatClampNeg) :: st)) : VV l E X cc own nm nL R ret P h k n pc lv (.int i :: va_rf (some a) :: st) := by
  obtain ⟨p, e, s, m, args, below, meth, c, A⟩ := X
  intro ok H locs ls hp hd hS hk hn hl
  obtain ⟨hx, hb, hr, hml, hown, hnm, hlk, hts, hK, hE, hA⟩ := id ok
  have hlt := hp.lt ha
  obtain ⟨k0, hk0⟩ := wl_at (G := E.2.1) hlt ha
  exact va_aldq (D := E.1) hx hb hK (wl_P (n := H.size) hp) k0 5 hk0 rfl hi d (kk ok H locs ls hp hd hS hk hn hl)
theorem v_aastNO {a N1 : Nat} {i : Int32} {g : Nat → Option Nat} (d : decode cc pc = .ok (.aastore, 1)) (ha : h a = some (.inl (5, N1, .inr (.inr (.inr (.inr g)))))) (hi : vp_in i N1) (kk : VV l E X cc own nm nL R ret P (va_up h a (some (.inl (5, N1, .inr (.inr (.inr (.inr (va_up g i.toNatClampNeg none)))))))) k n (pc + 1) lv st) : VV l E X cc own nm nL R ret P h k n pc lv (va_rf none :: .int i :: va_rf (some a) :: st) := by
  obtain ⟨p, e, s, m, args, below, meth, c, A⟩ := X
  intro ok H locs ls hp hd hS hk hn hl
  obtain ⟨hx, hb, hr, hml, hown, hnm, hlk, hts, hK, hE, hA⟩ := id ok
  have hlt := hp.lt ha
  obtain ⟨k0, hk0⟩ := wl_at (G := E.2.1) hlt ha
  exact va_astqN (D := E.1) hx hb hK (wl_P (n := H.size) hp) (wl_D (n := H.size) hd) hS k0 5 hk0 rfl hi d (fun H1 locs1 hP1 hD1 hS1 => kk ok H1 locs1 ls (vset (e := .inl (5, N1, .inr (.inr (.inr (.inr (va_up g i.toNatClampNeg none)))))) hp hk0 hP1) (vdom hd (hd a (by rw [ha]; exact Option.some_ne_none _))) hS1 hk hn hl)
theorem v_asg {s : State} {C T : String} (hz : va_Nw (.castable C T) s) : ∀ comp c0 : ClassId, s.vm.findClass T = some comp → s.vm.findClass C = some c0 → s.vm.assignable c0 comp = true := by
  intro comp c0 h1 h2
  obtain ⟨c1, t1, g1, g2, g3⟩ := Cond.castable_spec (va_Nw.use (A := #[]) rfl hz)
  rw [g1] at h2
  rw [g2] at h1
  cases h1
  cases h2
  exact g3
theorem v_aastO {a b N1 ci : Nat} {i : Int32} {g : Nat → Option Nat} {fs : List Value} {C : String} {T : u_T} {N : Nat} (hc : vcl[ci]? = some (C, T, N)) (hq1 : Cond.castable C "java/lang/Object" ∈ lw_tbl) (d : decode cc pc = .ok (.aastore, 1)) (ha : h a = some (.inl (5, N1, .inr (.inr (.inr (.inr g)))))) (hi : vp_in i N1) (hvb : h b = some (.inr (ci, fs))) (kk : VV l E X cc own nm nL R ret P (va_up h a (some (.inl (5, N1, .inr (.inr (.inr (.inr (va_up g i.toNatClampNeg (some b))))))))) k n (pc + 1) lv st) : VV l E X cc own nm nL R ret P h k n pc lv (va_rf (some b) :: .int i :: va_rf (some a) :: st) := by
  obtain ⟨p, e, s, m, args, below, meth, c, A⟩ := X
  intro ok H locs ls hp hd hS hk hn hl
  obtain ⟨hx, hb, hr, hml, hown, hnm, hlk, hts, hK, hE, hA⟩ := id ok
  have hlt := hp.lt ha
  obtain ⟨k0, hk0⟩ := wl_at (G := E.2.1) hlt ha
  obtain ⟨k1, hk1⟩ := wl_at (G := E.2.1) (hp.lt hvb) hvb
  exact va_astqM (D := E.1) (E := "java/lang/Object") hx hb hK (wl_P (n := H.size) hp) (wl_D (n := H.size) hd) hS k0 5 hk0 rfl (va_rAny hK (wl_P (n := H.size) hp) hk1 hc (v_asg (hE.1.2.2.1 _ _ hq1))) hi d (fun H1 locs1 hP1 hD1 hS1 => kk ok H1 locs1 ls (vset (e := .inl (5, N1, .inr (.inr (.inr (.inr (va_up g i.toNatClampNeg (some b))))))) hp hk0 hP1) (vdom hd (hd a (by rw [ha]; exact Option.some_ne_none _))) hS1 hk hn hl)
theorem v_aaldP {a N1 : Nat} {i : Int32} {g : Nat → Option Nat} (d : decode cc pc = .ok (.aaload, 1)) (ha : h a = some (.inl (6, N1, .inr (.inr (.inr (.inr g)))))) (hi : vp_in i N1) (kk : VV l E X cc own nm nL R ret P h k n (pc + 1) lv (va_rf (g i.toNatClampNeg) :: st)) : VV l E X cc own nm nL R ret P h k n pc lv (.int i :: va_rf (some a) :: st) := by
  obtain ⟨p, e, s, m, args, below, meth, c, A⟩ := X
  intro ok H locs ls hp hd hS hk hn hl
  obtain ⟨hx, hb, hr, hml, hown, hnm, hlk, hts, hK, hE, hA⟩ := id ok
  have hlt := hp.lt ha
  obtain ⟨k0, hk0⟩ := wl_at (G := E.2.1) hlt ha
  exact va_aldq (D := E.1) hx hb hK (wl_P (n := H.size) hp) k0 6 hk0 rfl hi d (kk ok H locs ls hp hd hS hk hn hl)
theorem v_aastNP {a N1 : Nat} {i : Int32} {g : Nat → Option Nat} (d : decode cc pc = .ok (.aastore, 1)) (ha : h a = some (.inl (6, N1, .inr (.inr (.inr (.inr g)))))) (hi : vp_in i N1) (kk : VV l E X cc own nm nL R ret P (va_up h a (some (.inl (6, N1, .inr (.inr (.inr (.inr (va_up g i.toNatClampNeg none)))))))) k n (pc + 1) lv st) : VV l E X cc own nm nL R ret P h k n pc lv (va_rf none :: .int i :: va_rf (some a) :: st) := by
  obtain ⟨p, e, s, m, args, below, meth, c, A⟩ := X
  intro ok H locs ls hp hd hS hk hn hl
  obtain ⟨hx, hb, hr, hml, hown, hnm, hlk, hts, hK, hE, hA⟩ := id ok
  have hlt := hp.lt ha
  obtain ⟨k0, hk0⟩ := wl_at (G := E.2.1) hlt ha
  exact va_astqN (D := E.1) hx hb hK (wl_P (n := H.size) hp) (wl_D (n := H.size) hd) hS k0 6 hk0 rfl hi d (fun H1 locs1 hP1 hD1 hS1 => kk ok H1 locs1 ls (vset (e := .inl (6, N1, .inr (.inr (.inr (.inr (va_up g i.toNatClampNeg none)))))) hp hk0 hP1) (vdom hd (hd a (by rw [ha]; exact Option.some_ne_none _))) hS1 hk hn hl)
theorem v_aastP {a b N1 ci : Nat} {i : Int32} {g : Nat → Option Nat} {fs : List Value} {T : u_T} {N : Nat} (hc : vcl[ci]? = some ("NobodysBard$Phrase", T, N)) (d : decode cc pc = .ok (.aastore, 1)) (ha : h a = some (.inl (6, N1, .inr (.inr (.inr (.inr g)))))) (hi : vp_in i N1) (hvb : h b = some (.inr (ci, fs))) (kk : VV l E X cc own nm nL R ret P (va_up h a (some (.inl (6, N1, .inr (.inr (.inr (.inr (va_up g i.toNatClampNeg (some b))))))))) k n (pc + 1) lv st) : VV l E X cc own nm nL R ret P h k n pc lv (va_rf (some b) :: .int i :: va_rf (some a) :: st) := by
  obtain ⟨p, e, s, m, args, below, meth, c, A⟩ := X
  intro ok H locs ls hp hd hS hk hn hl
  obtain ⟨hx, hb, hr, hml, hown, hnm, hlk, hts, hK, hE, hA⟩ := id ok
  have hlt := hp.lt ha
  obtain ⟨k0, hk0⟩ := wl_at (G := E.2.1) hlt ha
  obtain ⟨k1, hk1⟩ := wl_at (G := E.2.1) (hp.lt hvb) hvb
  exact va_astq (D := E.1) (r := ("NobodysBard$Phrase", T, N)) hx hb hK (wl_P (n := H.size) hp) (wl_D (n := H.size) hd) hS k0 6 k1 ci hk0 rfl hk1 hc hi d (fun H1 locs1 hP1 hD1 hS1 => kk ok H1 locs1 ls (vset (e := .inl (6, N1, .inr (.inr (.inr (.inr (va_up g i.toNatClampNeg (some b))))))) hp hk0 hP1) (vdom hd (hd a (by rw [ha]; exact Option.some_ne_none _))) hS1 hk hn hl)
theorem v_aaldS {a N1 : Nat} {i : Int32} {g : Nat → Option Nat} (d : decode cc pc = .ok (.aaload, 1)) (ha : h a = some (.inl (7, N1, .inr (.inr (.inr (.inr g)))))) (hi : vp_in i N1) (kk : VV l E X cc own nm nL R ret P h k n (pc + 1) lv (va_rf (g i.toNatClampNeg) :: st)) : VV l E X cc own nm nL R ret P h k n pc lv (.int i :: va_rf (some a) :: st) := by
  obtain ⟨p, e, s, m, args, below, meth, c, A⟩ := X
  intro ok H locs ls hp hd hS hk hn hl
  obtain ⟨hx, hb, hr, hml, hown, hnm, hlk, hts, hK, hE, hA⟩ := id ok
  have hlt := hp.lt ha
  obtain ⟨k0, hk0⟩ := wl_at (G := E.2.1) hlt ha
  exact va_aldq (D := E.1) hx hb hK (wl_P (n := H.size) hp) k0 7 hk0 rfl hi d (kk ok H locs ls hp hd hS hk hn hl)
theorem v_aastNS {a N1 : Nat} {i : Int32} {g : Nat → Option Nat} (d : decode cc pc = .ok (.aastore, 1)) (ha : h a = some (.inl (7, N1, .inr (.inr (.inr (.inr g)))))) (hi : vp_in i N1) (kk : VV l E X cc own nm nL R ret P (va_up h a (some (.inl (7, N1, .inr (.inr (.inr (.inr (va_up g i.toNatClampNeg none)))))))) k n (pc + 1) lv st) : VV l E X cc own nm nL R ret P h k n pc lv (va_rf none :: .int i :: va_rf (some a) :: st) := by
  obtain ⟨p, e, s, m, args, below, meth, c, A⟩ := X
  intro ok H locs ls hp hd hS hk hn hl
  obtain ⟨hx, hb, hr, hml, hown, hnm, hlk, hts, hK, hE, hA⟩ := id ok
  have hlt := hp.lt ha
  obtain ⟨k0, hk0⟩ := wl_at (G := E.2.1) hlt ha
  exact va_astqN (D := E.1) hx hb hK (wl_P (n := H.size) hp) (wl_D (n := H.size) hd) hS k0 7 hk0 rfl hi d (fun H1 locs1 hP1 hD1 hS1 => kk ok H1 locs1 ls (vset (e := .inl (7, N1, .inr (.inr (.inr (.inr (va_up g i.toNatClampNeg none)))))) hp hk0 hP1) (vdom hd (hd a (by rw [ha]; exact Option.some_ne_none _))) hS1 hk hn hl)
theorem v_aastS {a b N1 ci : Nat} {i : Int32} {g : Nat → Option Nat} {fs : List Value} {T : u_T} {N : Nat} (hc : vcl[ci]? = some ("NobodysBard$State", T, N)) (d : decode cc pc = .ok (.aastore, 1)) (ha : h a = some (.inl (7, N1, .inr (.inr (.inr (.inr g)))))) (hi : vp_in i N1) (hvb : h b = some (.inr (ci, fs))) (kk : VV l E X cc own nm nL R ret P (va_up h a (some (.inl (7, N1, .inr (.inr (.inr (.inr (va_up g i.toNatClampNeg (some b))))))))) k n (pc + 1) lv st) : VV l E X cc own nm nL R ret P h k n pc lv (va_rf (some b) :: .int i :: va_rf (some a) :: st) := by
  obtain ⟨p, e, s, m, args, below, meth, c, A⟩ := X
  intro ok H locs ls hp hd hS hk hn hl
  obtain ⟨hx, hb, hr, hml, hown, hnm, hlk, hts, hK, hE, hA⟩ := id ok
  have hlt := hp.lt ha
  obtain ⟨k0, hk0⟩ := wl_at (G := E.2.1) hlt ha
  obtain ⟨k1, hk1⟩ := wl_at (G := E.2.1) (hp.lt hvb) hvb
  exact va_astq (D := E.1) (r := ("NobodysBard$State", T, N)) hx hb hK (wl_P (n := H.size) hp) (wl_D (n := H.size) hd) hS k0 7 k1 ci hk0 rfl hk1 hc hi d (fun H1 locs1 hP1 hD1 hS1 => kk ok H1 locs1 ls (vset (e := .inl (7, N1, .inr (.inr (.inr (.inr (va_up g i.toNatClampNeg (some b))))))) hp hk0 hP1) (vdom hd (hd a (by rw [ha]; exact Option.some_ne_none _))) hS1 hk hn hl)
theorem v_aaldR {a N1 : Nat} {i : Int32} {g : Nat → Option Nat} (d : decode cc pc = .ok (.aaload, 1)) (ha : h a = some (.inl (8, N1, .inr (.inr (.inr (.inr g)))))) (hi : vp_in i N1) (kk : VV l E X cc own nm nL R ret P h k n (pc + 1) lv (va_rf (g i.toNatClampNeg) :: st)) : VV l E X cc own nm nL R ret P h k n pc lv (.int i :: va_rf (some a) :: st) := by
  obtain ⟨p, e, s, m, args, below, meth, c, A⟩ := X
  intro ok H locs ls hp hd hS hk hn hl
  obtain ⟨hx, hb, hr, hml, hown, hnm, hlk, hts, hK, hE, hA⟩ := id ok
  have hlt := hp.lt ha
  obtain ⟨k0, hk0⟩ := wl_at (G := E.2.1) hlt ha
  exact va_aldq (D := E.1) hx hb hK (wl_P (n := H.size) hp) k0 8 hk0 rfl hi d (kk ok H locs ls hp hd hS hk hn hl)
theorem v_aastNR {a N1 : Nat} {i : Int32} {g : Nat → Option Nat} (d : decode cc pc = .ok (.aastore, 1)) (ha : h a = some (.inl (8, N1, .inr (.inr (.inr (.inr g)))))) (hi : vp_in i N1) (kk : VV l E X cc own nm nL R ret P (va_up h a (some (.inl (8, N1, .inr (.inr (.inr (.inr (va_up g i.toNatClampNeg none)))))))) k n (pc + 1) lv st) : VV l E X cc own nm nL R ret P h k n pc lv (va_rf none :: .int i :: va_rf (some a) :: st) := by
  obtain ⟨p, e, s, m, args, below, meth, c, A⟩ := X
  intro ok H locs ls hp hd hS hk hn hl
  obtain ⟨hx, hb, hr, hml, hown, hnm, hlk, hts, hK, hE, hA⟩ := id ok
  have hlt := hp.lt ha
  obtain ⟨k0, hk0⟩ := wl_at (G := E.2.1) hlt ha
  exact va_astqN (D := E.1) hx hb hK (wl_P (n := H.size) hp) (wl_D (n := H.size) hd) hS k0 8 hk0 rfl hi d (fun H1 locs1 hP1 hD1 hS1 => kk ok H1 locs1 ls (vset (e := .inl (8, N1, .inr (.inr (.inr (.inr (va_up g i.toNatClampNeg none)))))) hp hk0 hP1) (vdom hd (hd a (by rw [ha]; exact Option.some_ne_none _))) hS1 hk hn hl)
theorem v_aastR {a b N1 ci : Nat} {i : Int32} {g : Nat → Option Nat} {fs : List Value} {T : u_T} {N : Nat} (hc : vcl[ci]? = some ("NobodysBard$Row", T, N)) (d : decode cc pc = .ok (.aastore, 1)) (ha : h a = some (.inl (8, N1, .inr (.inr (.inr (.inr g)))))) (hi : vp_in i N1) (hvb : h b = some (.inr (ci, fs))) (kk : VV l E X cc own nm nL R ret P (va_up h a (some (.inl (8, N1, .inr (.inr (.inr (.inr (va_up g i.toNatClampNeg (some b))))))))) k n (pc + 1) lv st) : VV l E X cc own nm nL R ret P h k n pc lv (va_rf (some b) :: .int i :: va_rf (some a) :: st) := by
  obtain ⟨p, e, s, m, args, below, meth, c, A⟩ := X
  intro ok H locs ls hp hd hS hk hn hl
  obtain ⟨hx, hb, hr, hml, hown, hnm, hlk, hts, hK, hE, hA⟩ := id ok
  have hlt := hp.lt ha
  obtain ⟨k0, hk0⟩ := wl_at (G := E.2.1) hlt ha
  obtain ⟨k1, hk1⟩ := wl_at (G := E.2.1) (hp.lt hvb) hvb
  exact va_astq (D := E.1) (r := ("NobodysBard$Row", T, N)) hx hb hK (wl_P (n := H.size) hp) (wl_D (n := H.size) hd) hS k0 8 k1 ci hk0 rfl hk1 hc hi d (fun H1 locs1 hP1 hD1 hS1 => kk ok H1 locs1 ls (vset (e := .inl (8, N1, .inr (.inr (.inr (.inr (va_up g i.toNatClampNeg (some b))))))) hp hk0 hP1) (vdom hd (hd a (by rw [ha]; exact Option.some_ne_none _))) hS1 hk hn hl)
theorem v_alen {a tt : Nat} {x : vp_A} {ty : FieldType} {v : Int32} (ht : (vtys E.2.1)[tt]? = some (E.2.1 tt, ty)) (d : decode cc pc = .ok (.arraylength, 1)) (ha : h a = some (.inl (tt, x))) (hv : Int32.ofNat x.1 = v) (kk : VV l E X cc own nm nL R ret P h k n (pc + 1) lv (.int v :: st)) : VV l E X cc own nm nL R ret P h k n pc lv (va_rf (some a) :: st) := by
  obtain ⟨p, e, s, m, args, below, meth, c, A⟩ := X
  intro ok H locs ls hp hd hS hk hn hl
  obtain ⟨hx, hb, hr, hml, hown, hnm, hlk, hts, hK, hE, hA⟩ := id ok
  have hlt := hp.lt ha
  obtain ⟨k0, hk0⟩ := wl_at (G := E.2.1) hlt ha
  exact va_alen (D := E.1) hx hb hK (wl_P (n := H.size) hp) k0 tt hk0 ht hv d (kk ok H locs ls hp hd hS hk hn hl)
theorem v_cast {a ci idx N : Nat} {fs : List Value} {C : String} {T : u_T} (hc : vcl[ci]? = some (C, T, N)) (hq1 : Cond.classLink own idx C ∈ lw_all) (d : decode cc pc = .ok (.checkcast idx, 3)) (ha : h a = some (.inr (ci, fs))) (kk : VV l E X cc own nm nL R ret P h k n (pc + 3) lv (va_rf (some a) :: st)) : VV l E X cc own nm nL R ret P h k n pc lv (va_rf (some a) :: st) := by
  obtain ⟨p, e, s, m, args, below, meth, c, A⟩ := X
  intro ok H locs ls hp hd hS hk hn hl
  obtain ⟨hx, hb, hr, hml, hown, hnm, hlk, hts, hK, hE, hA⟩ := id ok
  have hlt := hp.lt ha
  obtain ⟨k0, hk0⟩ := wl_at (G := E.2.1) hlt ha
  exact va_castS hx hb hown (hts _ hq1) (hK.1 ci _ hc).2 (va_recv hK (wl_P (n := H.size) hp) hc hk0) d (kk ok H locs ls hp hd hS hk hn hl)
theorem v_castY {a ci idx N : Nat} {fs : List Value} {C nm1 : String} {T : u_T} (hc : vcl[ci]? = some (C, T, N)) (hq1 : Cond.classLink own idx nm1 ∈ lw_all) (hq2 : Cond.castable C nm1 ∈ lw_tbl) (d : decode cc pc = .ok (.checkcast idx, 3)) (ha : h a = some (.inr (ci, fs))) (kk : VV l E X cc own nm nL R ret P h k n (pc + 3) lv (va_rf (some a) :: st)) : VV l E X cc own nm nL R ret P h k n pc lv (va_rf (some a) :: st) := by
  obtain ⟨p, e, s, m, args, below, meth, c, A⟩ := X
  intro ok H locs ls hp hd hS hk hn hl
  obtain ⟨hx, hb, hr, hml, hown, hnm, hlk, hts, hK, hE, hA⟩ := id ok
  have hlt := hp.lt ha
  obtain ⟨k0, hk0⟩ := wl_at (G := E.2.1) hlt ha
  exact va_castY hx hb hown (hts _ hq1) (hE.1.2.2.1 _ _ hq2) (va_recv hK (wl_P (n := H.size) hp) hc hk0) d (kk ok H locs ls hp hd hS hk hn hl)
theorem v_instS {a ci idx N : Nat} {fs : List Value} {C : String} {T : u_T} (hc : vcl[ci]? = some (C, T, N)) (hq1 : Cond.classLink own idx C ∈ lw_all) (d : decode cc pc = .ok (.instanceof idx, 3)) (ha : h a = some (.inr (ci, fs))) (kk : VV l E X cc own nm nL R ret P h k n (pc + 3) lv (.int 1 :: st)) : VV l E X cc own nm nL R ret P h k n pc lv (va_rf (some a) :: st) := by
  obtain ⟨p, e, s, m, args, below, meth, c, A⟩ := X
  intro ok H locs ls hp hd hS hk hn hl
  obtain ⟨hx, hb, hr, hml, hown, hnm, hlk, hts, hK, hE, hA⟩ := id ok
  have hlt := hp.lt ha
  obtain ⟨k0, hk0⟩ := wl_at (G := E.2.1) hlt ha
  exact va_instS hx hb hown (hts _ hq1) (hK.1 ci _ hc).2 (va_recv hK (wl_P (n := H.size) hp) hc hk0) d (kk ok H locs ls hp hd hS hk hn hl)
theorem v_instNo {a ci idx N : Nat} {fs : List Value} {C nm1 : String} {T : u_T} (hc : vcl[ci]? = some (C, T, N)) (hq1 : Cond.classLink own idx nm1 ∈ lw_all) (hq2 : (C, nm1) ∈ vncs) (d : decode cc pc = .ok (.instanceof idx, 3)) (ha : h a = some (.inr (ci, fs))) (kk : VV l E X cc own nm nL R ret P h k n (pc + 3) lv (.int 0 :: st)) : VV l E X cc own nm nL R ret P h k n pc lv (va_rf (some a) :: st) := by
  obtain ⟨p, e, s, m, args, below, meth, c, A⟩ := X
  intro ok H locs ls hp hd hS hk hn hl
  obtain ⟨hx, hb, hr, hml, hown, hnm, hlk, hts, hK, hE, hA⟩ := id ok
  have hlt := hp.lt ha
  obtain ⟨k0, hk0⟩ := wl_at (G := E.2.1) hlt ha
  exact va_instNo hx hb hown (hts _ hq1) (hE.1.2.2.2.2.2.1 _ hq2) (va_recv hK (wl_P (n := H.size) hp) hc hk0) d (kk ok H locs ls hp hd hS hk hn hl)
theorem v_objInit {r : Nat} {idx : Nat} (hq1 : Cond.methodLink own idx Lib.objectInit ∈ lw_all) (hq2 : Cond.instanceMethod Lib.objectInit ∈ lw_all) (hq3 : Cond.code Lib.objectInit ⟨#[0xb1]⟩ 1 none ∈ lw_all) (hsz : (st.map fun v => v.category).sum ≤ 8) (hR1 : 1 ≤ R.frames) (hR2 : 20 ≤ R.locals) (d : decode cc pc = .ok (.invokespecial idx, 3)) (kk : VV l E X cc own nm nL R ret P h k n (pc + 3) lv st) : VV l E X cc own nm nL R ret P h k n pc lv (va_rf (some r) :: st) := by
  obtain ⟨p, e, s, m, args, below, meth, c, A⟩ := X
  intro ok H locs ls hp hd hS hk hn hl
  obtain ⟨hx, hb, hr, hml, hown, hnm, hlk, hts, hK, hE, hA⟩ := id ok
  refine W.objInit hx hb hown (hts _ hq1) (hts _ hq2) (hts _ hq3) rfl (by rw [hml]; exact hl.1) rfl d hR1 ?_ (kk ok H locs ls hp hd hS hk hn hl)
  have := lv_room (m := m) (pc := pc) (ls := ls) (rest := va_rf (some r) :: st) hsz
  exact Nat.le_trans (Nat.add_le_add_right this 12) hR2
theorem v_entry {y : MethodName} {rm : Room} {av : List Value} (hy : plainName y.cls = true) (hlen : (lg_sl av).length ≤ nL) (hla : lv_args 0 av = lv) (hV : ∀ X : VX, VV l E X cc y.cls y.name nL rm ret P h 0 0 0 lv []) : Mt l E y (ws_ y cc nL ret) rm av h P := by
  intro sz
  refine Met.ofW (cc := cc) (maxL := nL) (ret := ret) hy rfl ?_
  intro p e s m args below meth c s₁ B hml hv
  obtain ⟨rfl, hsz, hp, hK, hE⟩ := hv
  have hts := atoms_spec (ws := ws_ y cc nL ret) B.pre
  have hts : ∀ w ∈ lw_all, w.before _ s = true := fun w h => hts w (List.mem_cons_of_mem _ h)
  subst hsz
  have hl := lv_entry av (n := nL) hlen
  rw [hla] at hl
  rw [lg_entry_eq]
  exact hV (p, e, s, m, av.toArray, below, meth, c, vA h s.heap.size) ⟨B.exec, B.bytes, B.returns, hml, findClass_of_methodNamed B.named, (name_of_methodNamed B.named B.method).1, B.notSynchronized, hts, hK, hE, fun q h => Or.inr h⟩ s.heap [] _ hp (fun q hq => Or.inl hq) va_S.rf (Nat.zero_le _) (Nat.zero_le _) hl
theorem vPc_blind {av : List Value} {sz : Nat} : FrameBlind (vPc E av h sz) := by
  intro a U g mk q
  obtain ⟨q1, q2, q3, q4, q5⟩ := q
  exact ⟨q1, q2, q3, va_K.moved (u := U) (U := U.calling g mk a) (Vm.Alike.refl U.vm) q4, vEn.same (u := U) (U := U.calling g mk a) rfl q5⟩
theorem vA_sub {h : AH} {A : Nat → Prop} {H0 H : Heap} {locs : List Loc} (hd : ∀ q, h q ≠ none → A q) (hS : va_S A H0 H locs) (hA : ∀ q, H0.size ≤ q → A q) : ∀ q, vA h H.size q → A q := by
  intro q hq
  rcases hq with hq | hq
  · exact hd q hq
  · exact hA q (Nat.le_trans hS.1 hq)
theorem vPc_pre {av : List Value} {s : State} {H : Heap} {A : Nat → Prop} {locs : List Loc} (hp : vhp E h H) (hK : vK E s) (hE : vEn E A s s.heap) (hd : ∀ q, h q ≠ none → A q) (hS : va_S A s.heap H locs) (hA : ∀ q, s.heap.size ≤ q → A q) : ∀ U : State, U.heap = H → s.WarmedH U.vm → vPc E av h H.size av.toArray U := by
  intro U hU hW
  exact ⟨rfl, by rw [hU], by rw [hU]; exact hp, va_K.moved hW.alike hK, hE.call hS (vA_sub hd hS hA) hU hW⟩
theorem v_run {p : Program} {e : Env} {s : State} {m : MethodId} {args : Array Value} {below : List Frame} {meth : Method} {c : Code} {A : Nat → Prop} {H : Heap} {locs : List Loc} {ls : Array Slot} {rm : Room} {st0 : List Value} {a : Array Value} {P1 : Option Value → AH → Prop} {Q : State → Prop} {pc2 : Nat}
    (hd : ∀ q, h q ≠ none → A q) (hS : va_S A s.heap H locs) (hA : ∀ q, s.heap.size ≤ q → A q)
    (hrun : ∀ T : State, T.heap = H → Stand p l e R s m args below meth c T locs k n → ∃ (v : Option Value) (st₀ t T' : State) (L : List Loc), st₀.heap = H ∧ Stand p l e R s m args below meth c T' (locs ++ L) (k + rm.cells) (n + rm.slots) ∧ (∀ q ∈ L, vA h H.size q.base) ∧ T'.heap = t.heap ∧ T'.vm = t.vm ∧ vQc E (vA h H.size) P1 a st₀ (.returned v) t ∧ Goes p e below T (F0 m pc ls st0) T' (F0 m pc2 ls (v.toList ++ st)))
    (kk : ∀ (v : Option Value) (h' : AH) (H1 : Heap) (locs1 : List Loc), P1 v h' → vhp E h' H1 → (∀ q, h' q ≠ none → A q) → va_S A s.heap H1 locs1 → W p l e R s m args below meth c H1 locs1 (k + rm.cells) (n + rm.slots) Q (F0 m pc2 ls (v.toList ++ st))) : W p l e R s m args below meth c H locs k n Q (F0 m pc ls st0) := by
  have hAA := vA_sub hd hS hA
  intro T hT X
  obtain ⟨v, st₀, t, T', L, h0, X', hL, e1, e2, ⟨⟨v1, h', hv, hP, hp', hd'⟩, hz, hk⟩, st9⟩ := hrun T hT X
  cases hv
  rw [h0] at hz hk
  obtain ⟨t2, a1, b1⟩ := kk v h' T'.heap (locs ++ L) hP (by rw [e1]; exact hp') (fun q hq => hAA q (hd' q hq))
    ⟨Nat.le_trans hS.1 (by rw [e1]; exact hz), fun q h1 h2 => by rw [e1, hk q (Nat.lt_of_lt_of_le h1 hS.1) (fun z => h2 (hAA q z))]; exact hS.2.1 q h1 h2, fun q hq => by
      rcases List.mem_append.mp hq with h | h
      · exact hS.2.2 q h
      · exact hAA _ (hL q h)⟩ T' rfl X'
  exact ⟨t2, st9 t2 a1, b1⟩
/-- the callee's name isn't a handle's, and its number of arguments -/
def vdn (y : MethodName) (n : Nat) : Prop := y.cls ≠ "java/lang/invoke/MethodHandle" ∧ y.cls ≠ "java/lang/invoke/VarHandle" ∧ (parseMethodDescriptor y.desc).map (fun d => d.parameters.length) = some n
theorem v_callS {y : MethodName} {b : ByteArray} {L na : Nat} {rt : Option FieldType} {rm : Room} {P1 : Option Value → AH → Prop} {idx : Nat}  (q1 : Cond.methodLink own idx y ∈ lw_all) (q2 : Cond.static y ∈ lw_all) (q3 : Cond.initialized y.cls ∈ lw_all) (q4 : Cond.code y b L rt ∈ lw_all) (hdn : vdn y na) (hR : rm.frames + 1 ≤ R.frames ∧ 8 + (L + 11) + rm.locals ≤ R.locals) (av rest : List Value) (hM : Mt l E y (ws_ y b L rt) rm av h P1) (hna : av.length = na) (hst : (rest.map fun v => v.category).sum ≤ 8) (hf : k + rm.cells ≤ R.cells ∧ n + rm.slots ≤ R.slots) (d : decode cc pc = .ok (.invokestatic idx, 3)) (hst0 : st = av.reverse ++ rest) (kk : ∀ (v : Option Value) (h' : AH), P1 v h' → VV l E X cc own nm nL R ret P h' (k + rm.cells) (n + rm.slots) (pc + 3) lv (v.toList ++ rest)) : VV l E X cc own nm nL R ret P h k n pc lv st := by
  subst hst0
  obtain ⟨p, e, s, m, args, below, meth, c, A⟩ := X
  intro ok H locs ls hp hd hS hk hn hl
  obtain ⟨hx, hb, hr, hml, hown, hnm, hlk, hts, hK, hE, hA⟩ := id ok
  refine v_run (rm := rm) hd hS hA (va_runS (As := av) (rest := rest) ⟨hx, hb, hml, hown, hts⟩ (hM H.size) (va_cwS na hts (lw_S q1 q2 q3 q4) rfl rfl rfl hdn hR) ⟨vPc_blind, vPc_pre hp hK hE hd hS hA⟩ rfl hna hl.1 rfl (lv_room hst) d hf) (fun v h1 H1 locs1 q1 q2 q3 q4 => kk v h1 q1 ok H1 locs1 ls q2 q3 q4 hf.1 hf.2 hl)
theorem v_callV {y : MethodName} {b : ByteArray} {L na : Nat} {rt : Option FieldType} {rm : Room} {P1 : Option Value → AH → Prop} {idx : Nat} {ci N ra : Nat} {T : u_T} {fs : List Value}  (q1 : Cond.methodLink own idx y ∈ lw_all) (q2 : Cond.instanceMethod y ∈ lw_all) (q3 : Cond.selects y.cls y y ∈ lw_all) (q4 : Cond.initialized y.cls ∈ lw_all) (q5 : Cond.code y b L rt ∈ lw_all) (hc : vcl[ci]? = some (y.cls, T, N)) (hra : h ra = some (.inr (ci, fs))) (hdn : vdn y na) (hR : rm.frames + 1 ≤ R.frames ∧ 8 + (L + 11) + rm.locals ≤ R.locals) (av rest : List Value) (hM : Mt l E y (ws_ y b L rt) rm (va_rf (some ra) :: av) h P1) (hna : av.length = na) (hst : (rest.map fun v => v.category).sum ≤ 8) (hf : k + rm.cells ≤ R.cells ∧ n + rm.slots ≤ R.slots) (d : decode cc pc = .ok (.invokevirtual idx, 3)) (hst0 : st = av.reverse ++ (va_rf (some ra) :: rest)) (kk : ∀ (v : Option Value) (h' : AH), P1 v h' → VV l E X cc own nm nL R ret P h' (k + rm.cells) (n + rm.slots) (pc + 3) lv (v.toList ++ rest)) : VV l E X cc own nm nL R ret P h k n pc lv st := by
  subst hst0
  obtain ⟨p, e, s, m, args, below, meth, c, A⟩ := X
  intro ok H locs ls hp hd hS hk hn hl
  obtain ⟨hx, hb, hr, hml, hown, hnm, hlk, hts, hK, hE, hA⟩ := id ok
  obtain ⟨k0, hk0⟩ := wl_at (G := E.2.1) (hp.lt hra) hra
  refine v_run (rm := rm) hd hS hA (va_runV (As := av) (rest := rest) ⟨hx, hb, hml, hown, hts⟩ (hM H.size) (cwV na hts (lw_V q1 q2 q3 q4 q5) rfl rfl rfl ⟨rfl, hdn⟩ hR) ⟨vPc_blind, (va_recv hK (wl_P (n := H.size) hp) hc hk0), vPc_pre hp hK hE hd hS hA⟩ rfl hna hl.1 rfl (lv_room hst) d hf) (fun v h1 H1 locs1 q1 q2 q3 q4 => kk v h1 q1 ok H1 locs1 ls q2 q3 q4 hf.1 hf.2 hl)
theorem v_callI {y : MethodName} {b : ByteArray} {L na : Nat} {rm : Room} {P1 : Option Value → AH → Prop} {idx : Nat} {ra : Nat} (q1 : Cond.methodLink own idx y ∈ lw_all) (q2 : Cond.instanceMethod y ∈ lw_all) (q3 : Cond.initialized y.cls ∈ lw_all) (q4 : Cond.code y b L none ∈ lw_all) (hy1 : y.name = "<init>") (hdn : vdn y na) (hR : rm.frames + 1 ≤ R.frames ∧ 8 + (L + 11) + rm.locals ≤ R.locals) (av rest : List Value) (hM : Mt l E y (ws_ y b L none) rm (va_rf (some ra) :: av) h P1) (hna : av.length = na) (hst : (rest.map fun v => v.category).sum ≤ 8) (hf : k + rm.cells ≤ R.cells ∧ n + rm.slots ≤ R.slots) (d : decode cc pc = .ok (.invokespecial idx, 3)) (hst0 : st = av.reverse ++ (va_rf (some ra) :: rest)) (kk : ∀ (v : Option Value) (h' : AH), P1 v h' → VV l E X cc own nm nL R ret P h' (k + rm.cells) (n + rm.slots) (pc + 3) lv (v.toList ++ rest)) : VV l E X cc own nm nL R ret P h k n pc lv st := by
  subst hst0
  obtain ⟨p, e, s, m, args, below, meth, c, A⟩ := X
  intro ok H locs ls hp hd hS hk hn hl
  obtain ⟨hx, hb, hr, hml, hown, hnm, hlk, hts, hK, hE, hA⟩ := id ok
  refine v_run (rm := rm) hd hS hA (va_runI (As := av) (rest := rest) ⟨hx, hb, hml, hown, hts⟩ (hM H.size) (cwI na hts (lw_meth q4) rfl rfl rfl (hts _ q3) (hts _ q1) (hts _ q2) hy1 hdn hR) ⟨vPc_blind, vPc_pre hp hK hE hd hS hA⟩ rfl hna hl.1 rfl (lv_room hst) d hf) (fun v h1 H1 locs1 q1 q2 q3 q4 => kk v h1 q1 ok H1 locs1 ls q2 q3 q4 hf.1 hf.2 hl)
theorem v_callStr {y : MethodName} {b : ByteArray} {L na : Nat} {rt : Option FieldType} {rm : Room} {P1 : Option Value → AH → Prop} {idx : Nat} {i : Nat} (hi : i < 14) (q1 : Cond.methodLink own idx y ∈ lw_all) (q2 : Cond.instanceMethod y ∈ lw_all) (q3 : Cond.selects y.cls y y ∈ lw_all) (q4 : Cond.initialized y.cls ∈ lw_all) (q5 : Cond.code y b L rt ∈ lw_all) (hyc : y.cls = "java/lang/String") (hdn : vdn y na) (hR : rm.frames + 1 ≤ R.frames ∧ 8 + (L + 11) + rm.locals ≤ R.locals) (av rest : List Value) (hM : Mt l E y (ws_ y b L rt) rm (va_rf (some (E.2.2.1 i)) :: av) h P1) (hna : av.length = na) (hst : (rest.map fun v => v.category).sum ≤ 8) (hf : k + rm.cells ≤ R.cells ∧ n + rm.slots ≤ R.slots) (d : decode cc pc = .ok (.invokevirtual idx, 3)) (hst0 : st = av.reverse ++ (va_rf (some (E.2.2.1 i)) :: rest)) (kk : ∀ (v : Option Value) (h' : AH), P1 v h' → VV l E X cc own nm nL R ret P h' (k + rm.cells) (n + rm.slots) (pc + 3) lv (v.toList ++ rest)) : VV l E X cc own nm nL R ret P h k n pc lv st := by
  subst hst0
  obtain ⟨p, e, s, m, args, below, meth, c, A⟩ := X
  intro ok H locs ls hp hd hS hk hn hl
  obtain ⟨hx, hb, hr, hml, hown, hnm, hlk, hts, hK, hE, hA⟩ := id ok
  refine v_run (rm := rm) hd hS hA (va_runV (As := av) (rest := rest) ⟨hx, hb, hml, hown, hts⟩ (hM H.size) (cwV na hts (lw_V q1 q2 q3 q4 q5) rfl rfl rfl ⟨rfl, hdn⟩ hR) ⟨vPc_blind, (by rw [hyc]; exact vk_recv hE.2.1 hi hS), vPc_pre hp hK hE hd hS hA⟩ rfl hna hl.1 rfl (lv_room hst) d hf) (fun v h1 H1 locs1 q1 q2 q3 q4 => kk v h1 q1 ok H1 locs1 ls q2 q3 q4 hf.1 hf.2 hl)
theorem v_callVN {y : MethodName} {b : ByteArray} {L na : Nat} {rt : Option FieldType} {rm : Room} {P1 : Option Value → AH → Prop} {idx : Nat} {ci N ra : Nat} {T : u_T} {fs : List Value} {host : String} (q1 : Cond.methodLinkNest own idx y host ∈ lw_tbl) (q2 : Cond.instanceMethod y ∈ lw_all) (q5 : Cond.selects y.cls y y ∈ lw_all) (q3 : Cond.initialized y.cls ∈ lw_all) (q4 : Cond.code y b L rt ∈ lw_all) (hc : vcl[ci]? = some (y.cls, T, N)) (hra : h ra = some (.inr (ci, fs))) (hdn : vdn y na) (hR : rm.frames + 1 ≤ R.frames ∧ 8 + (L + 11) + rm.locals ≤ R.locals) (av rest : List Value) (hM : Mt l E y (ws_ y b L rt) rm (va_rf (some ra) :: av) h P1) (hna : av.length = na) (hst : (rest.map fun v => v.category).sum ≤ 8) (hf : k + rm.cells ≤ R.cells ∧ n + rm.slots ≤ R.slots) (d : decode cc pc = .ok (.invokevirtual idx, 3)) (hst0 : st = av.reverse ++ (va_rf (some ra) :: rest)) (kk : ∀ (v : Option Value) (h' : AH), P1 v h' → VV l E X cc own nm nL R ret P h' (k + rm.cells) (n + rm.slots) (pc + 3) lv (v.toList ++ rest)) : VV l E X cc own nm nL R ret P h k n pc lv st := by
  subst hst0
  obtain ⟨p, e, s, m, args, below, meth, c, A⟩ := X
  intro ok H locs ls hp hd hS hk hn hl
  obtain ⟨hx, hb, hr, hml, hown, hnm, hlk, hts, hK, hE, hA⟩ := id ok
  obtain ⟨k0, hk0⟩ := wl_at (G := E.2.1) (hp.lt hra) hra
  refine v_run (rm := rm) hd hS hA (va_runVN (As := av) (rest := rest) ⟨hx, hb, hml, hown, hts⟩ (hM H.size) ⟨(va_cnB na hts (lw_meth q4) rfl rfl rfl (hE.1.2.1 _ _ _ _ q1) (hts _ q3) hdn hR), hts _ q2, hts _ q5⟩ ⟨vPc_blind, (va_recv hK (wl_P (n := H.size) hp) hc hk0), vPc_pre hp hK hE hd hS hA⟩ rfl hna hl.1 rfl (lv_room hst) d hf) (fun v h1 H1 locs1 q1 q2 q3 q4 => kk v h1 q1 ok H1 locs1 ls q2 q3 q4 hf.1 hf.2 hl)
theorem v_callIN {y : MethodName} {b : ByteArray} {L na : Nat} {rm : Room} {P1 : Option Value → AH → Prop} {idx : Nat} {ra : Nat} {host : String} (q1 : Cond.methodLinkNest own idx y host ∈ lw_tbl) (q2 : Cond.instanceMethod y ∈ lw_all) (q3 : Cond.initialized y.cls ∈ lw_all) (q4 : Cond.code y b L none ∈ lw_all) (hy1 : y.name = "<init>") (hdn : vdn y na) (hR : rm.frames + 1 ≤ R.frames ∧ 8 + (L + 11) + rm.locals ≤ R.locals) (av rest : List Value) (hM : Mt l E y (ws_ y b L none) rm (va_rf (some ra) :: av) h P1) (hna : av.length = na) (hst : (rest.map fun v => v.category).sum ≤ 8) (hf : k + rm.cells ≤ R.cells ∧ n + rm.slots ≤ R.slots) (d : decode cc pc = .ok (.invokespecial idx, 3)) (hst0 : st = av.reverse ++ (va_rf (some ra) :: rest)) (kk : ∀ (v : Option Value) (h' : AH), P1 v h' → VV l E X cc own nm nL R ret P h' (k + rm.cells) (n + rm.slots) (pc + 3) lv (v.toList ++ rest)) : VV l E X cc own nm nL R ret P h k n pc lv st := by
  subst hst0
  obtain ⟨p, e, s, m, args, below, meth, c, A⟩ := X
  intro ok H locs ls hp hd hS hk hn hl
  obtain ⟨hx, hb, hr, hml, hown, hnm, hlk, hts, hK, hE, hA⟩ := id ok
  refine v_run (rm := rm) hd hS hA (va_runIN (As := av) (rest := rest) ⟨hx, hb, hml, hown, hts⟩ (hM H.size) ⟨(va_cnB na hts (lw_meth q4) rfl rfl rfl (hE.1.2.1 _ _ _ _ q1) (hts _ q3) hdn hR), hy1, hts _ q2⟩ ⟨vPc_blind, vPc_pre hp hK hE hd hS hA⟩ rfl hna hl.1 rfl (lv_room hst) d hf) (fun v h1 H1 locs1 q1 q2 q3 q4 => kk v h1 q1 ok H1 locs1 ls q2 q3 q4 hf.1 hf.2 hl)
theorem v_callF {x : MethodName} {cnt : Nat} {C : String} {y : MethodName} {b : ByteArray} {L na : Nat} {rt : Option FieldType} {rm : Room} {P1 : Option Value → AH → Prop} {idx : Nat} {ci N ra : Nat} {T : u_T} {fs : List Value} (q1 : Cond.methodLink own idx x ∈ lw_all) (q2 : Cond.selects C x y ∈ lw_all) (q3 : Cond.instanceMethod y ∈ lw_all) (q4 : Cond.initialized y.cls ∈ lw_all) (q5 : Cond.code y b L rt ∈ lw_all) (q6 : (C, x, y) ∈ vfaces) (hc : vcl[ci]? = some (C, T, N)) (hra : h ra = some (.inr (ci, fs))) (hdn : vdn x na) (hR : rm.frames + 1 ≤ R.frames ∧ 8 + (L + 11) + rm.locals ≤ R.locals) (av rest : List Value) (hM : Mt l E y (ws_ y b L rt) rm (va_rf (some ra) :: av) h P1) (hna : av.length = na) (hst : (rest.map fun v => v.category).sum ≤ 8) (hf : k + rm.cells ≤ R.cells ∧ n + rm.slots ≤ R.slots) (d : decode cc pc = .ok (.invokeinterface idx cnt, 5)) (hst0 : st = av.reverse ++ (va_rf (some ra) :: rest)) (kk : ∀ (v : Option Value) (h' : AH), P1 v h' → VV l E X cc own nm nL R ret P h' (k + rm.cells) (n + rm.slots) (pc + 5) lv (v.toList ++ rest)) : VV l E X cc own nm nL R ret P h k n pc lv st := by
  subst hst0
  obtain ⟨p, e, s, m, args, below, meth, c, A⟩ := X
  intro ok H locs ls hp hd hS hk hn hl
  obtain ⟨hx, hb, hr, hml, hown, hnm, hlk, hts, hK, hE, hA⟩ := id ok
  obtain ⟨k0, hk0⟩ := wl_at (G := E.2.1) (hp.lt hra) hra
  have hG : GoodIn lw_all (va_wsF own idx C x y (ws_ y b L rt)) := lw_app (by
    intro w hw
    simp only [List.mem_cons, List.not_mem_nil, or_false] at hw
    rcases hw with e | e | e | e
    · rw [e]; exact q1
    · rw [e]; exact q2
    · rw [e]; exact q3
    · rw [e]; exact q4) (lw_meth q5)
  refine v_run (rm := rm) hd hS hA (va_runF (As := av) (rest := rest) (hK.1 ci _ hc).2 ⟨hx, hb, hml, hown, hts⟩ (hM H.size) (va_cwF na hts hG rfl rfl rfl (hE.1.2.2.2.2.1 _ q6) hdn hR) ⟨vPc_blind, (va_recv hK (wl_P (n := H.size) hp) hc hk0), vPc_pre hp hK hE hd hS hA⟩ rfl hna hl.1 rfl (lv_room hst) d hf) (fun v h1 H1 locs1 q1 q2 q3 q4 => kk v h1 q1 ok H1 locs1 ls q2 q3 q4 hf.1 hf.2 hl)
theorem v_callFD {x : MethodName} {cnt : Nat} {C : String} {y : MethodName} {b : ByteArray} {L na : Nat} {rt : Option FieldType} {rm : Room} {P1 : Option Value → AH → Prop} {idx : Nat} {ci N ra : Nat} {T : u_T} {fs : List Value} (q1 : Cond.methodLink own idx x ∈ lw_all) (q3 : Cond.instanceMethod y ∈ lw_all) (q4 : Cond.initialized y.cls ∈ lw_all) (q5 : Cond.code y b L rt ∈ lw_all) (q6 : (C, x, y) ∈ vfacesD) (hc : vcl[ci]? = some (C, T, N)) (hra : h ra = some (.inr (ci, fs))) (hdn : vdn x na) (hR : rm.frames + 1 ≤ R.frames ∧ 8 + (L + 11) + rm.locals ≤ R.locals) (av rest : List Value) (hM : Mt l E y (ws_ y b L rt) rm (va_rf (some ra) :: av) h P1) (hna : av.length = na) (hst : (rest.map fun v => v.category).sum ≤ 8) (hf : k + rm.cells ≤ R.cells ∧ n + rm.slots ≤ R.slots) (d : decode cc pc = .ok (.invokeinterface idx cnt, 5)) (hst0 : st = av.reverse ++ (va_rf (some ra) :: rest)) (kk : ∀ (v : Option Value) (h' : AH), P1 v h' → VV l E X cc own nm nL R ret P h' (k + rm.cells) (n + rm.slots) (pc + 5) lv (v.toList ++ rest)) : VV l E X cc own nm nL R ret P h k n pc lv st := by
  subst hst0
  obtain ⟨p, e, s, m, args, below, meth, c, A⟩ := X
  intro ok H locs ls hp hd hS hk hn hl
  obtain ⟨hx, hb, hr, hml, hown, hnm, hlk, hts, hK, hE, hA⟩ := id ok
  obtain ⟨k0, hk0⟩ := wl_at (G := E.2.1) (hp.lt hra) hra
  obtain ⟨f1, f2, f3, f4, f5⟩ := hE.1.2.2.2.2.2.2 _ q6
  have hG : GoodIn lw_all (ws_ y b L rt) := lw_meth q5
  have hBk : Back l R p e below s args y 5 8 (PreOf R rm.cells rm.slots (vPc E (va_rf (some ra) :: av) h H.size)) (PostOf (vQc E (vA h H.size) P1) rm.cells rm.slots (vA h H.size)) := back_of (bytes := b) (maxL := L) (ret := rt) (hM H.size) vPc_blind rfl rfl hR.1 hR.2 (pay_in hts hG) List.mem_cons_self (fun a' U hW => word_at hW (Or.inl (by first | rfl | simp [Cond.onTables, Cond.keeps, Cond.steady])) (hts _ q4))
  obtain ⟨hfc, kB, hkB, -⟩ := (hK.1 ci _ hc).2
  obtain ⟨cellB, r1, r2, r3⟩ := (va_recv hK (wl_P (n := H.size) hp) hc hk0)
  have e7 : cellB.cls = E.1.1 ci := (Option.some.inj (hfc.symm.trans r3)).symm
  refine v_run (rm := rm) (a := (va_rf (some ra) :: av).toArray) hd hS hA ?_ (fun v h1 H1 locs1 q1 q2 q3 q4 => kk v h1 q1 ok H1 locs1 ls q2 q3 q4 hf.1 hf.2 hl)
  intro T0 hT XX
  obtain ⟨v, vm₁, ⟨U', l2, c2, s2⟩, hW₁, X', ⟨g', mk, t, L9, e1, e2, hq, h1, hL, h2, h3⟩, st9⟩ := interfaceBackD XX hx hown (hts _ q1) (va_tabs rfl rfl f1) (va_tabs rfl rfl f2) (show (Cond.landsInDefault C x y).before args s = true from f4) (hts _ q3) (va_tabs rfl rfl f3) (va_tabs rfl rfl f5) ⟨hdn.1, hdn.2.1⟩ hBk hfc hkB ⟨cellB, by rw [hT]; exact r1, e7, r2⟩ rfl (hl.1.trans hml.symm) (Steps.refl _) (argsL := av) (rest := rest) (fun sig hh => by
    have h9 := hdn.2.2
    rw [hh] at h9
    exact hna.trans (Option.some.inj h9).symm) rfl (lv_room hst) (by rw [hb]; exact d) (fun vm₁ hW₁ => ⟨hf.1, hf.2, vPc_pre hp hK hE hd hS hA (T0.setVm vm₁) hT hW₁⟩)
  dsimp only [Pt.U, Pt.locs, Pt.cells, Pt.slots] at X' e1 e2 h1 h2 h3 st9
  subst h1; subst h2; subst h3
  exact ⟨v, (T0.setVm vm₁).calling g' mk _, t, U', L9, hT, X', hL, e1, e2, hq, fun target hh => st9.trans hh⟩
end FRAME
