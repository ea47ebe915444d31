set_option maxRecDepth 100000
theorem ic_m10 : Int32.ofInt (-10) = (-10) := by decide
theorem ic_m8 : Int32.ofInt (-8) = (-8) := by decide
theorem ic_m7 : Int32.ofInt (-7) = (-7) := by decide
theorem ic_m6 : Int32.ofInt (-6) = (-6) := by decide
theorem ic_m5 : Int32.ofInt (-5) = (-5) := by decide
theorem ic_m4 : Int32.ofInt (-4) = (-4) := by decide
theorem ic_m3 : Int32.ofInt (-3) = (-3) := by decide
theorem ic_m2 : Int32.ofInt (-2) = (-2) := by decide
theorem ic_m1 : Int32.ofInt (-1) = (-1) := by decide
theorem ic_0 : Int32.ofInt (0) = (nI 0) := by decide
theorem ic_1 : Int32.ofInt (1) = (nI 1) := by decide
theorem ic_2 : Int32.ofInt (2) = (nI 2) := by decide
theorem ic_3 : Int32.ofInt (3) = (nI 3) := by decide
theorem ic_4 : Int32.ofInt (4) = (nI 4) := by decide
theorem ic_5 : Int32.ofInt (5) = (nI 5) := by decide
theorem ic_6 : Int32.ofInt (6) = (nI 6) := by decide
theorem ic_7 : Int32.ofInt (7) = (nI 7) := by decide
theorem ic_8 : Int32.ofInt (8) = (nI 8) := by decide
theorem ic_9 : Int32.ofInt (9) = (nI 9) := by decide
theorem ic_10 : Int32.ofInt (10) = (nI 10) := by decide
theorem ic_11 : Int32.ofInt (11) = (nI 11) := by decide
theorem ic_12 : Int32.ofInt (12) = (nI 12) := by decide
theorem ic_13 : Int32.ofInt (13) = (nI 13) := by decide
theorem ic_14 : Int32.ofInt (14) = (nI 14) := by decide
theorem ic_15 : Int32.ofInt (15) = (nI 15) := by decide
theorem ic_16 : Int32.ofInt (16) = (nI 16) := by decide
theorem ic_17 : Int32.ofInt (17) = (nI 17) := by decide
theorem ic_18 : Int32.ofInt (18) = (nI 18) := by decide
theorem ic_19 : Int32.ofInt (19) = (nI 19) := by decide
theorem ic_20 : Int32.ofInt (20) = (nI 20) := by decide
theorem ic_24 : Int32.ofInt (24) = (nI 24) := by decide
theorem ic_29 : Int32.ofInt (29) = (nI 29) := by decide
theorem ic_32 : Int32.ofInt (32) = (nI 32) := by decide
theorem ic_40 : Int32.ofInt (40) = (nI 40) := by decide
theorem ic_41 : Int32.ofInt (41) = (nI 41) := by decide
theorem ic_48 : Int32.ofInt (48) = (nI 48) := by decide
theorem ic_49 : Int32.ofInt (49) = (nI 49) := by decide
theorem ic_50 : Int32.ofInt (50) = (nI 50) := by decide
theorem ic_56 : Int32.ofInt (56) = (nI 56) := by decide
theorem ic_57 : Int32.ofInt (57) = (nI 57) := by decide
theorem ic_59 : Int32.ofInt (59) = (nI 59) := by decide
theorem ic_60 : Int32.ofInt (60) = (nI 60) := by decide
theorem ic_63 : Int32.ofInt (63) = (nI 63) := by decide
theorem ic_80 : Int32.ofInt (80) = (nI 80) := by decide
theorem ic_81 : Int32.ofInt (81) = (nI 81) := by decide
theorem ic_87 : Int32.ofInt (87) = (nI 87) := by decide
theorem ic_97 : Int32.ofInt (97) = (nI 97) := by decide
theorem ic_99 : Int32.ofInt (99) = (nI 99) := by decide
theorem ic_100 : Int32.ofInt (100) = (nI 100) := by decide
theorem ic_109 : Int32.ofInt (109) = (nI 109) := by decide
theorem ic_116 : Int32.ofInt (116) = (nI 116) := by decide
theorem ic_121 : Int32.ofInt (121) = (nI 121) := by decide
theorem ic_122 : Int32.ofInt (122) = (nI 122) := by decide
theorem ic_128 : Int32.ofInt (128) = (nI 128) := by decide
theorem ic_133 : Int32.ofInt (133) = (nI 133) := by decide
theorem ic_145 : Int32.ofInt (145) = (nI 145) := by decide
theorem ic_161 : Int32.ofInt (161) = (nI 161) := by decide
theorem ic_162 : Int32.ofInt (162) = (nI 162) := by decide
theorem ic_163 : Int32.ofInt (163) = (nI 163) := by decide
theorem ic_199 : Int32.ofInt (199) = (nI 199) := by decide
theorem ic_200 : Int32.ofInt (200) = (nI 200) := by decide
theorem ic_223 : Int32.ofInt (223) = (nI 223) := by decide
theorem ic_224 : Int32.ofInt (224) = (nI 224) := by decide
theorem ic_236 : Int32.ofInt (236) = (nI 236) := by decide
theorem ic_240 : Int32.ofInt (240) = (nI 240) := by decide
theorem ic_248 : Int32.ofInt (248) = (nI 248) := by decide
theorem ic_249 : Int32.ofInt (249) = (nI 249) := by decide
theorem ic_250 : Int32.ofInt (250) = (nI 250) := by decide
theorem ic_255 : Int32.ofInt (255) = (nI 255) := by decide
theorem ic_256 : Int32.ofInt (256) = (nI 256) := by decide
theorem ic_260 : Int32.ofInt (260) = (nI 260) := by decide
theorem ic_400 : Int32.ofInt (400) = (nI 400) := by decide
theorem ic_480 : Int32.ofInt (480) = (nI 480) := by decide
theorem ic_506 : Int32.ofInt (506) = (nI 506) := by decide
theorem ic_507 : Int32.ofInt (507) = (nI 507) := by decide
theorem ic_527 : Int32.ofInt (527) = (nI 527) := by decide
theorem ic_540 : Int32.ofInt (540) = (nI 540) := by decide
theorem ic_547 : Int32.ofInt (547) = (nI 547) := by decide
theorem ic_548 : Int32.ofInt (548) = (nI 548) := by decide
theorem ic_608 : Int32.ofInt (608) = (nI 608) := by decide
theorem ic_645 : Int32.ofInt (645) = (nI 645) := by decide
theorem ic_668 : Int32.ofInt (668) = (nI 668) := by decide
theorem ic_684 : Int32.ofInt (684) = (nI 684) := by decide
theorem ic_704 : Int32.ofInt (704) = (nI 704) := by decide
theorem ic_724 : Int32.ofInt (724) = (nI 724) := by decide
theorem ic_728 : Int32.ofInt (728) = (nI 728) := by decide
theorem ic_784 : Int32.ofInt (784) = (nI 784) := by decide
theorem ic_788 : Int32.ofInt (788) = (nI 788) := by decide
theorem ic_848 : Int32.ofInt (848) = (nI 848) := by decide
theorem ic_849 : Int32.ofInt (849) = (nI 849) := by decide
theorem ic_869 : Int32.ofInt (869) = (nI 869) := by decide
theorem ic_889 : Int32.ofInt (889) = (nI 889) := by decide
theorem ic_890 : Int32.ofInt (890) = (nI 890) := by decide
theorem ic_930 : Int32.ofInt (930) = (nI 930) := by decide
theorem ic_970 : Int32.ofInt (970) = (nI 970) := by decide
theorem ic_971 : Int32.ofInt (971) = (nI 971) := by decide
theorem ic_979 : Int32.ofInt (979) = (nI 979) := by decide
theorem ic_987 : Int32.ofInt (987) = (nI 987) := by decide
theorem ic_988 : Int32.ofInt (988) = (nI 988) := by decide
theorem ic_996 : Int32.ofInt (996) = (nI 996) := by decide
theorem ic_1000 : Int32.ofInt (1000) = (nI 1000) := by decide
theorem ic_1124 : Int32.ofInt (1124) = (nI 1124) := by decide
theorem ic_1935 : Int32.ofInt (1935) = (nI 1935) := by decide
theorem ic_2080 : Int32.ofInt (2080) = (nI 2080) := by decide
theorem ic_2352 : Int32.ofInt (2352) = (nI 2352) := by decide
theorem ic_2580 : Int32.ofInt (2580) = (nI 2580) := by decide
theorem ic_3372 : Int32.ofInt (3372) = (nI 3372) := by decide
theorem ic_5000 : Int32.ofInt (5000) = (nI 5000) := by decide
theorem ic_10000 : Int32.ofInt (10000) = (nI 10000) := by decide
theorem ic_12345 : Int32.ofInt (12345) = (nI 12345) := by decide
theorem bp_m10 : (Int8.ofInt (-10)).toInt32 = (-10) := by decide
theorem bp_m7 : (Int8.ofInt (-7)).toInt32 = (-7) := by decide
theorem bp_m6 : (Int8.ofInt (-6)).toInt32 = (-6) := by decide
theorem bp_m5 : (Int8.ofInt (-5)).toInt32 = (-5) := by decide
theorem bp_m4 : (Int8.ofInt (-4)).toInt32 = (-4) := by decide
theorem bp_m3 : (Int8.ofInt (-3)).toInt32 = (-3) := by decide
theorem bp_m2 : (Int8.ofInt (-2)).toInt32 = (-2) := by decide
theorem bp_6 : (Int8.ofInt (6)).toInt32 = (nI 6) := by decide
theorem bp_7 : (Int8.ofInt (7)).toInt32 = (nI 7) := by decide
theorem bp_8 : (Int8.ofInt (8)).toInt32 = (nI 8) := by decide
theorem bp_9 : (Int8.ofInt (9)).toInt32 = (nI 9) := by decide
theorem bp_10 : (Int8.ofInt (10)).toInt32 = (nI 10) := by decide
theorem bp_11 : (Int8.ofInt (11)).toInt32 = (nI 11) := by decide
theorem bp_12 : (Int8.ofInt (12)).toInt32 = (nI 12) := by decide
theorem bp_13 : (Int8.ofInt (13)).toInt32 = (nI 13) := by decide
theorem bp_14 : (Int8.ofInt (14)).toInt32 = (nI 14) := by decide
theorem bp_15 : (Int8.ofInt (15)).toInt32 = (nI 15) := by decide
theorem bp_16 : (Int8.ofInt (16)).toInt32 = (nI 16) := by decide
theorem bp_17 : (Int8.ofInt (17)).toInt32 = (nI 17) := by decide
theorem bp_18 : (Int8.ofInt (18)).toInt32 = (nI 18) := by decide
theorem bp_19 : (Int8.ofInt (19)).toInt32 = (nI 19) := by decide
theorem bp_20 : (Int8.ofInt (20)).toInt32 = (nI 20) := by decide
theorem bp_24 : (Int8.ofInt (24)).toInt32 = (nI 24) := by decide
theorem bp_29 : (Int8.ofInt (29)).toInt32 = (nI 29) := by decide
theorem bp_32 : (Int8.ofInt (32)).toInt32 = (nI 32) := by decide
theorem bp_40 : (Int8.ofInt (40)).toInt32 = (nI 40) := by decide
theorem bp_41 : (Int8.ofInt (41)).toInt32 = (nI 41) := by decide
theorem bp_48 : (Int8.ofInt (48)).toInt32 = (nI 48) := by decide
theorem bp_49 : (Int8.ofInt (49)).toInt32 = (nI 49) := by decide
theorem bp_50 : (Int8.ofInt (50)).toInt32 = (nI 50) := by decide
theorem bp_56 : (Int8.ofInt (56)).toInt32 = (nI 56) := by decide
theorem bp_57 : (Int8.ofInt (57)).toInt32 = (nI 57) := by decide
theorem bp_59 : (Int8.ofInt (59)).toInt32 = (nI 59) := by decide
theorem bp_60 : (Int8.ofInt (60)).toInt32 = (nI 60) := by decide
theorem bp_63 : (Int8.ofInt (63)).toInt32 = (nI 63) := by decide
theorem bp_80 : (Int8.ofInt (80)).toInt32 = (nI 80) := by decide
theorem bp_81 : (Int8.ofInt (81)).toInt32 = (nI 81) := by decide
theorem bp_87 : (Int8.ofInt (87)).toInt32 = (nI 87) := by decide
theorem bp_97 : (Int8.ofInt (97)).toInt32 = (nI 97) := by decide
theorem bp_99 : (Int8.ofInt (99)).toInt32 = (nI 99) := by decide
theorem bp_100 : (Int8.ofInt (100)).toInt32 = (nI 100) := by decide
theorem bp_109 : (Int8.ofInt (109)).toInt32 = (nI 109) := by decide
theorem bp_116 : (Int8.ofInt (116)).toInt32 = (nI 116) := by decide
theorem bp_121 : (Int8.ofInt (121)).toInt32 = (nI 121) := by decide
theorem bp_122 : (Int8.ofInt (122)).toInt32 = (nI 122) := by decide
theorem sp_128 : (Int16.ofInt (128)).toInt32 = (nI 128) := by decide
theorem sp_133 : (Int16.ofInt (133)).toInt32 = (nI 133) := by decide
theorem sp_145 : (Int16.ofInt (145)).toInt32 = (nI 145) := by decide
theorem sp_161 : (Int16.ofInt (161)).toInt32 = (nI 161) := by decide
theorem sp_162 : (Int16.ofInt (162)).toInt32 = (nI 162) := by decide
theorem sp_163 : (Int16.ofInt (163)).toInt32 = (nI 163) := by decide
theorem sp_199 : (Int16.ofInt (199)).toInt32 = (nI 199) := by decide
theorem sp_200 : (Int16.ofInt (200)).toInt32 = (nI 200) := by decide
theorem sp_223 : (Int16.ofInt (223)).toInt32 = (nI 223) := by decide
theorem sp_224 : (Int16.ofInt (224)).toInt32 = (nI 224) := by decide
theorem sp_236 : (Int16.ofInt (236)).toInt32 = (nI 236) := by decide
theorem sp_240 : (Int16.ofInt (240)).toInt32 = (nI 240) := by decide
theorem sp_248 : (Int16.ofInt (248)).toInt32 = (nI 248) := by decide
theorem sp_249 : (Int16.ofInt (249)).toInt32 = (nI 249) := by decide
theorem sp_250 : (Int16.ofInt (250)).toInt32 = (nI 250) := by decide
theorem sp_255 : (Int16.ofInt (255)).toInt32 = (nI 255) := by decide
theorem sp_256 : (Int16.ofInt (256)).toInt32 = (nI 256) := by decide
theorem sp_260 : (Int16.ofInt (260)).toInt32 = (nI 260) := by decide
theorem sp_400 : (Int16.ofInt (400)).toInt32 = (nI 400) := by decide
theorem sp_480 : (Int16.ofInt (480)).toInt32 = (nI 480) := by decide
theorem sp_506 : (Int16.ofInt (506)).toInt32 = (nI 506) := by decide
theorem sp_507 : (Int16.ofInt (507)).toInt32 = (nI 507) := by decide
theorem sp_527 : (Int16.ofInt (527)).toInt32 = (nI 527) := by decide
theorem sp_540 : (Int16.ofInt (540)).toInt32 = (nI 540) := by decide
theorem sp_547 : (Int16.ofInt (547)).toInt32 = (nI 547) := by decide
theorem sp_548 : (Int16.ofInt (548)).toInt32 = (nI 548) := by decide
theorem sp_608 : (Int16.ofInt (608)).toInt32 = (nI 608) := by decide
theorem sp_645 : (Int16.ofInt (645)).toInt32 = (nI 645) := by decide
theorem sp_668 : (Int16.ofInt (668)).toInt32 = (nI 668) := by decide
theorem sp_684 : (Int16.ofInt (684)).toInt32 = (nI 684) := by decide
theorem sp_704 : (Int16.ofInt (704)).toInt32 = (nI 704) := by decide
theorem sp_724 : (Int16.ofInt (724)).toInt32 = (nI 724) := by decide
theorem sp_728 : (Int16.ofInt (728)).toInt32 = (nI 728) := by decide
theorem sp_784 : (Int16.ofInt (784)).toInt32 = (nI 784) := by decide
theorem sp_788 : (Int16.ofInt (788)).toInt32 = (nI 788) := by decide
theorem sp_848 : (Int16.ofInt (848)).toInt32 = (nI 848) := by decide
theorem sp_849 : (Int16.ofInt (849)).toInt32 = (nI 849) := by decide
theorem sp_869 : (Int16.ofInt (869)).toInt32 = (nI 869) := by decide
theorem sp_889 : (Int16.ofInt (889)).toInt32 = (nI 889) := by decide
theorem sp_890 : (Int16.ofInt (890)).toInt32 = (nI 890) := by decide
theorem sp_930 : (Int16.ofInt (930)).toInt32 = (nI 930) := by decide
theorem sp_970 : (Int16.ofInt (970)).toInt32 = (nI 970) := by decide
theorem sp_971 : (Int16.ofInt (971)).toInt32 = (nI 971) := by decide
theorem sp_979 : (Int16.ofInt (979)).toInt32 = (nI 979) := by decide
theorem sp_987 : (Int16.ofInt (987)).toInt32 = (nI 987) := by decide
theorem sp_988 : (Int16.ofInt (988)).toInt32 = (nI 988) := by decide
theorem sp_996 : (Int16.ofInt (996)).toInt32 = (nI 996) := by decide
theorem sp_1000 : (Int16.ofInt (1000)).toInt32 = (nI 1000) := by decide
theorem sp_1124 : (Int16.ofInt (1124)).toInt32 = (nI 1124) := by decide
theorem sp_1935 : (Int16.ofInt (1935)).toInt32 = (nI 1935) := by decide
theorem sp_2080 : (Int16.ofInt (2080)).toInt32 = (nI 2080) := by decide
theorem sp_2352 : (Int16.ofInt (2352)).toInt32 = (nI 2352) := by decide
theorem sp_2580 : (Int16.ofInt (2580)).toInt32 = (nI 2580) := by decide
theorem sp_3372 : (Int16.ofInt (3372)).toInt32 = (nI 3372) := by decide
theorem sp_5000 : (Int16.ofInt (5000)).toInt32 = (nI 5000) := by decide
theorem sp_10000 : (Int16.ofInt (10000)).toInt32 = (nI 10000) := by decide
theorem sp_12345 : (Int16.ofInt (12345)).toInt32 = (nI 12345) := by decide
/-! the model's heap: mi its int fields by place, ma its int and boolean arrays by the field's place, ml its long arrays -/
set_option maxRecDepth 100000
def mFs (b : Nat → Nat) (mi : Nat → Int32) : List Value := [.int (mi 0), va_rf (some (b 1)), va_rf (some (b 2)), va_rf (some (b 3)), va_rf (some (b 4)), va_rf (some (b 5)), va_rf (some (b 6)), va_rf (some (b 7)), va_rf (some (b 8)), .int (mi 9), .int (mi 10), .int (mi 11), .int (mi 12), .int (mi 13), .int (mi 14), .int (mi 15), .int (mi 16), .int (mi 17), .int (mi 18), .int (mi 19), .int (mi 20), va_rf (some (b 21)), va_rf (some (b 22)), .int (mi 23), va_rf (some (b 24)), .int (mi 25), va_rf (some (b 26)), va_rf (some (b 27)), .int (mi 28), .int (mi 29), .int (mi 30), va_rf (some (b 31)), .int (mi 32), .int (mi 33), va_rf (some (b 34)), va_rf (some (b 35)), va_rf (some (b 36)), va_rf (some (b 37))]
def mcell (b : Nat → Nat) (mi : Nat → Int32) (ma : Nat → Nat → Int32) (ml : Nat → Nat → Int64) : Nat → va_E
  | 0 => .inr (7, mFs b mi)
  | 1 => .inl (0, 8, .inl (ma 1))
  | 2 => .inl (0, 3372, .inl (ma 2))
  | 3 => .inl (1, 2352, .inr (.inl (ml 3)))
  | 4 => .inl (4, 2, .inl (ma 4))
  | 5 => .inl (0, 81, .inl (ma 5))
  | 6 => .inl (0, 2580, .inl (ma 6))
  | 7 => .inl (0, 116, .inl (ma 7))
  | 8 => .inl (0, 400, .inl (ma 8))
  | 21 => .inl (0, 8, .inl (ma 21))
  | 22 => .inl (0, 12, .inl (ma 22))
  | 24 => .inl (4, 260, .inl (ma 24))
  | 26 => .inl (1, 12, .inr (.inl (ml 26)))
  | 27 => .inl (1, 480, .inr (.inl (ml 27)))
  | 31 => .inl (0, 6, .inl (ma 31))
  | 34 => .inl (0, 256, .inl (ma 34))
  | 35 => .inl (0, 4, .inl (ma 35))
  | 36 => .inl (0, 4, .inl (ma 36))
  | 37 => .inl (1, 240, .inr (.inl (ml 37)))
  | _ => .inl (0, 0, .inl (fun _ => 0))
def mks : List Nat := [0, 1, 2, 3, 4, 5, 6, 7, 8, 21, 22, 24, 26, 27, 31, 34, 35, 36, 37]
def mH (b : Nat → Nat) (mi : Nat → Int32) (ma : Nat → Nat → Int32) (ml : Nat → Nat → Int64) : AH := fun a => (mks.find? (fun k => b k == a)).map (mcell b mi ma ml)
def mOK (b : Nat → Nat) : Prop := ∀ i ∈ mks, ∀ j ∈ mks, b i = b j → i = j
def mup (ma : Nat → Nat → Int32) (k i : Nat) (x : Int32) : Nat → Nat → Int32 := va_up ma k (upd (ma k) i x)
def mupL (ml : Nat → Nat → Int64) (k i : Nat) (x : Int64) : Nat → Nat → Int64 := va_up ml k (vp_updL (ml k) i x)
section MF
variable {b : Nat → Nat} {mi mi1 : Nat → Int32} {ma ma1 : Nat → Nat → Int32} {ml ml1 : Nat → Nat → Int64}
theorem m_find : ∀ (L : List Nat), (∀ i ∈ L, ∀ j ∈ L, b i = b j → i = j) → ∀ k ∈ L, L.find? (fun j => b j == b k) = some k
  | [], _, k, hk => absurd hk List.not_mem_nil
  | x :: L, h, k, hk => by
    by_cases hx : b x = b k
    · have := h x List.mem_cons_self k hk hx
      subst this
      simp
    · have hkx : k ∈ L := by
        rcases List.mem_cons.mp hk with e | e
        · subst e; exact absurd rfl hx
        · exact e
      rw [List.find?_cons_of_neg (by simpa using hx)]
      exact m_find L (fun i hi j hj => h i (List.mem_cons_of_mem _ hi) j (List.mem_cons_of_mem _ hj)) k hkx
theorem mH_at (hb : mOK b) {k : Nat} (hk : k ∈ mks) : mH b mi ma ml (b k) = some (mcell b mi ma ml k) := by
  unfold mH
  rw [m_find mks hb k hk]
  rfl
theorem mH_up (hb : mOK b) {k : Nat} (hk : k ∈ mks) {e : va_E} (he : mcell b mi1 ma1 ml1 k = e) (ho : ∀ j ∈ mks, j ≠ k → mcell b mi1 ma1 ml1 j = mcell b mi ma ml j) : va_up (mH b mi ma ml) (b k) (some e) = mH b mi1 ma1 ml1 := by
  funext a
  by_cases ha : a = b k
  · subst ha
    rw [va_up_self, mH_at hb hk, he]
  · rw [va_up_ne _ _ ha]
    unfold mH
    cases hf : mks.find? (fun k => b k == a) with
    | none => rfl
    | some j =>
      have hj := List.mem_of_find?_eq_some hf
      have hja : b j = a := by simpa using List.find?_some hf
      have hjk : j ≠ k := fun z => ha (by rw [← hja, z])
      show some (mcell b mi ma ml j) = some (mcell b mi1 ma1 ml1 j)
      rw [ho j hj hjk]
theorem mH_none {a : Nat} (h : mH b mi ma ml a ≠ none) : ∃ k ∈ mks, a = b k := by
  unfold mH at h
  cases hf : mks.find? (fun k => b k == a) with
  | none => rw [hf] at h; exact absurd rfl h
  | some j =>
    have h2 : b j = a := by simpa using List.find?_some hf
    exact ⟨j, List.mem_of_find?_eq_some hf, h2.symm⟩
theorem mcell_ma {j : Nat} (h : ma1 j = ma j) : mcell b mi ma1 ml j = mcell b mi ma ml j := by
  unfold mcell
  split <;> first | rfl | rw [h]
theorem mcell_ml {j : Nat} (h : ml1 j = ml j) : mcell b mi ma ml1 j = mcell b mi ma ml j := by
  unfold mcell
  split <;> first | rfl | rw [h]
theorem mcell_mi {j : Nat} (h : j ≠ 0) : mcell b mi1 ma ml j = mcell b mi ma ml j := by
  unfold mcell
  split <;> first | rfl | exact absurd rfl h
theorem mH_obj (hb : mOK b) : mH b mi ma ml (b 0) = some (.inr (7, mFs b mi)) := mH_at hb (by decide)
theorem mH_ar1 (hb : mOK b) : mH b mi ma ml (b 1) = some (.inl (0, 8, .inl (ma 1))) := mH_at hb (by decide)
theorem mH_st1 (hb : mOK b) {i : Nat} {x : Int32} : va_up (mH b mi ma ml) (b 1) (some (.inl (0, 8, .inl (upd (ma 1) i x)))) = mH b mi (mup ma 1 i x) ml := mH_up hb (by decide) (by exact congrArg (fun z => (Sum.inl (0, 8, Sum.inl z) : va_E)) (va_up_self _ _ _)) (fun j _ hj => mcell_ma (va_up_ne _ _ hj))
theorem mH_ar2 (hb : mOK b) : mH b mi ma ml (b 2) = some (.inl (0, 3372, .inl (ma 2))) := mH_at hb (by decide)
theorem mH_st2 (hb : mOK b) {i : Nat} {x : Int32} : va_up (mH b mi ma ml) (b 2) (some (.inl (0, 3372, .inl (upd (ma 2) i x)))) = mH b mi (mup ma 2 i x) ml := mH_up hb (by decide) (by exact congrArg (fun z => (Sum.inl (0, 3372, Sum.inl z) : va_E)) (va_up_self _ _ _)) (fun j _ hj => mcell_ma (va_up_ne _ _ hj))
theorem mH_ar3 (hb : mOK b) : mH b mi ma ml (b 3) = some (.inl (1, 2352, .inr (.inl (ml 3)))) := mH_at hb (by decide)
theorem mH_st3 (hb : mOK b) {i : Nat} {x : Int64} : va_up (mH b mi ma ml) (b 3) (some (.inl (1, 2352, .inr (.inl (vp_updL (ml 3) i x))))) = mH b mi ma (mupL ml 3 i x) := mH_up hb (by decide) (by exact congrArg (fun z => (Sum.inl (1, 2352, Sum.inr (Sum.inl z)) : va_E)) (va_up_self _ _ _)) (fun j _ hj => mcell_ml (va_up_ne _ _ hj))
theorem mH_ar4 (hb : mOK b) : mH b mi ma ml (b 4) = some (.inl (4, 2, .inl (ma 4))) := mH_at hb (by decide)
theorem mH_st4 (hb : mOK b) {i : Nat} {x : Int32} : va_up (mH b mi ma ml) (b 4) (some (.inl (4, 2, .inl (upd (ma 4) i x)))) = mH b mi (mup ma 4 i x) ml := mH_up hb (by decide) (by exact congrArg (fun z => (Sum.inl (4, 2, Sum.inl z) : va_E)) (va_up_self _ _ _)) (fun j _ hj => mcell_ma (va_up_ne _ _ hj))
theorem mH_ar5 (hb : mOK b) : mH b mi ma ml (b 5) = some (.inl (0, 81, .inl (ma 5))) := mH_at hb (by decide)
theorem mH_st5 (hb : mOK b) {i : Nat} {x : Int32} : va_up (mH b mi ma ml) (b 5) (some (.inl (0, 81, .inl (upd (ma 5) i x)))) = mH b mi (mup ma 5 i x) ml := mH_up hb (by decide) (by exact congrArg (fun z => (Sum.inl (0, 81, Sum.inl z) : va_E)) (va_up_self _ _ _)) (fun j _ hj => mcell_ma (va_up_ne _ _ hj))
theorem mH_ar6 (hb : mOK b) : mH b mi ma ml (b 6) = some (.inl (0, 2580, .inl (ma 6))) := mH_at hb (by decide)
theorem mH_st6 (hb : mOK b) {i : Nat} {x : Int32} : va_up (mH b mi ma ml) (b 6) (some (.inl (0, 2580, .inl (upd (ma 6) i x)))) = mH b mi (mup ma 6 i x) ml := mH_up hb (by decide) (by exact congrArg (fun z => (Sum.inl (0, 2580, Sum.inl z) : va_E)) (va_up_self _ _ _)) (fun j _ hj => mcell_ma (va_up_ne _ _ hj))
theorem mH_ar7 (hb : mOK b) : mH b mi ma ml (b 7) = some (.inl (0, 116, .inl (ma 7))) := mH_at hb (by decide)
theorem mH_st7 (hb : mOK b) {i : Nat} {x : Int32} : va_up (mH b mi ma ml) (b 7) (some (.inl (0, 116, .inl (upd (ma 7) i x)))) = mH b mi (mup ma 7 i x) ml := mH_up hb (by decide) (by exact congrArg (fun z => (Sum.inl (0, 116, Sum.inl z) : va_E)) (va_up_self _ _ _)) (fun j _ hj => mcell_ma (va_up_ne _ _ hj))
theorem mH_ar8 (hb : mOK b) : mH b mi ma ml (b 8) = some (.inl (0, 400, .inl (ma 8))) := mH_at hb (by decide)
theorem mH_st8 (hb : mOK b) {i : Nat} {x : Int32} : va_up (mH b mi ma ml) (b 8) (some (.inl (0, 400, .inl (upd (ma 8) i x)))) = mH b mi (mup ma 8 i x) ml := mH_up hb (by decide) (by exact congrArg (fun z => (Sum.inl (0, 400, Sum.inl z) : va_E)) (va_up_self _ _ _)) (fun j _ hj => mcell_ma (va_up_ne _ _ hj))
theorem mH_ar21 (hb : mOK b) : mH b mi ma ml (b 21) = some (.inl (0, 8, .inl (ma 21))) := mH_at hb (by decide)
theorem mH_st21 (hb : mOK b) {i : Nat} {x : Int32} : va_up (mH b mi ma ml) (b 21) (some (.inl (0, 8, .inl (upd (ma 21) i x)))) = mH b mi (mup ma 21 i x) ml := mH_up hb (by decide) (by exact congrArg (fun z => (Sum.inl (0, 8, Sum.inl z) : va_E)) (va_up_self _ _ _)) (fun j _ hj => mcell_ma (va_up_ne _ _ hj))
theorem mH_ar22 (hb : mOK b) : mH b mi ma ml (b 22) = some (.inl (0, 12, .inl (ma 22))) := mH_at hb (by decide)
theorem mH_st22 (hb : mOK b) {i : Nat} {x : Int32} : va_up (mH b mi ma ml) (b 22) (some (.inl (0, 12, .inl (upd (ma 22) i x)))) = mH b mi (mup ma 22 i x) ml := mH_up hb (by decide) (by exact congrArg (fun z => (Sum.inl (0, 12, Sum.inl z) : va_E)) (va_up_self _ _ _)) (fun j _ hj => mcell_ma (va_up_ne _ _ hj))
theorem mH_ar24 (hb : mOK b) : mH b mi ma ml (b 24) = some (.inl (4, 260, .inl (ma 24))) := mH_at hb (by decide)
theorem mH_st24 (hb : mOK b) {i : Nat} {x : Int32} : va_up (mH b mi ma ml) (b 24) (some (.inl (4, 260, .inl (upd (ma 24) i x)))) = mH b mi (mup ma 24 i x) ml := mH_up hb (by decide) (by exact congrArg (fun z => (Sum.inl (4, 260, Sum.inl z) : va_E)) (va_up_self _ _ _)) (fun j _ hj => mcell_ma (va_up_ne _ _ hj))
theorem mH_ar26 (hb : mOK b) : mH b mi ma ml (b 26) = some (.inl (1, 12, .inr (.inl (ml 26)))) := mH_at hb (by decide)
theorem mH_st26 (hb : mOK b) {i : Nat} {x : Int64} : va_up (mH b mi ma ml) (b 26) (some (.inl (1, 12, .inr (.inl (vp_updL (ml 26) i x))))) = mH b mi ma (mupL ml 26 i x) := mH_up hb (by decide) (by exact congrArg (fun z => (Sum.inl (1, 12, Sum.inr (Sum.inl z)) : va_E)) (va_up_self _ _ _)) (fun j _ hj => mcell_ml (va_up_ne _ _ hj))
theorem mH_ar27 (hb : mOK b) : mH b mi ma ml (b 27) = some (.inl (1, 480, .inr (.inl (ml 27)))) := mH_at hb (by decide)
theorem mH_st27 (hb : mOK b) {i : Nat} {x : Int64} : va_up (mH b mi ma ml) (b 27) (some (.inl (1, 480, .inr (.inl (vp_updL (ml 27) i x))))) = mH b mi ma (mupL ml 27 i x) := mH_up hb (by decide) (by exact congrArg (fun z => (Sum.inl (1, 480, Sum.inr (Sum.inl z)) : va_E)) (va_up_self _ _ _)) (fun j _ hj => mcell_ml (va_up_ne _ _ hj))
theorem mH_ar31 (hb : mOK b) : mH b mi ma ml (b 31) = some (.inl (0, 6, .inl (ma 31))) := mH_at hb (by decide)
theorem mH_st31 (hb : mOK b) {i : Nat} {x : Int32} : va_up (mH b mi ma ml) (b 31) (some (.inl (0, 6, .inl (upd (ma 31) i x)))) = mH b mi (mup ma 31 i x) ml := mH_up hb (by decide) (by exact congrArg (fun z => (Sum.inl (0, 6, Sum.inl z) : va_E)) (va_up_self _ _ _)) (fun j _ hj => mcell_ma (va_up_ne _ _ hj))
theorem mH_ar34 (hb : mOK b) : mH b mi ma ml (b 34) = some (.inl (0, 256, .inl (ma 34))) := mH_at hb (by decide)
theorem mH_st34 (hb : mOK b) {i : Nat} {x : Int32} : va_up (mH b mi ma ml) (b 34) (some (.inl (0, 256, .inl (upd (ma 34) i x)))) = mH b mi (mup ma 34 i x) ml := mH_up hb (by decide) (by exact congrArg (fun z => (Sum.inl (0, 256, Sum.inl z) : va_E)) (va_up_self _ _ _)) (fun j _ hj => mcell_ma (va_up_ne _ _ hj))
theorem mH_ar35 (hb : mOK b) : mH b mi ma ml (b 35) = some (.inl (0, 4, .inl (ma 35))) := mH_at hb (by decide)
theorem mH_st35 (hb : mOK b) {i : Nat} {x : Int32} : va_up (mH b mi ma ml) (b 35) (some (.inl (0, 4, .inl (upd (ma 35) i x)))) = mH b mi (mup ma 35 i x) ml := mH_up hb (by decide) (by exact congrArg (fun z => (Sum.inl (0, 4, Sum.inl z) : va_E)) (va_up_self _ _ _)) (fun j _ hj => mcell_ma (va_up_ne _ _ hj))
theorem mH_ar36 (hb : mOK b) : mH b mi ma ml (b 36) = some (.inl (0, 4, .inl (ma 36))) := mH_at hb (by decide)
theorem mH_st36 (hb : mOK b) {i : Nat} {x : Int32} : va_up (mH b mi ma ml) (b 36) (some (.inl (0, 4, .inl (upd (ma 36) i x)))) = mH b mi (mup ma 36 i x) ml := mH_up hb (by decide) (by exact congrArg (fun z => (Sum.inl (0, 4, Sum.inl z) : va_E)) (va_up_self _ _ _)) (fun j _ hj => mcell_ma (va_up_ne _ _ hj))
theorem mH_ar37 (hb : mOK b) : mH b mi ma ml (b 37) = some (.inl (1, 240, .inr (.inl (ml 37)))) := mH_at hb (by decide)
theorem mH_st37 (hb : mOK b) {i : Nat} {x : Int64} : va_up (mH b mi ma ml) (b 37) (some (.inl (1, 240, .inr (.inl (vp_updL (ml 37) i x))))) = mH b mi ma (mupL ml 37 i x) := mH_up hb (by decide) (by exact congrArg (fun z => (Sum.inl (1, 240, Sum.inr (Sum.inl z)) : va_E)) (va_up_self _ _ _)) (fun j _ hj => mcell_ml (va_up_ne _ _ hj))
end MF
section MROWS
variable {l : Launch} {E : VE} {X : VX} {cc : ByteArray} {own nm : String} {nL : Nat} {R : Room} {ret : Option FieldType} {P : Option Value → AH → Prop} {k n pc : Nat} {lv : List (Nat × Value)} {st : List Value} {b : Nat → Nat} {mi mi1 : Nat → Int32} {ma : Nat → Nat → Int32} {ml : Nat → Nat → Int64}
theorem vm_get {idx : Nat} {ref : String} {v : Value} (hb : mOK b) (f : Nat) (hf : f < 38) (hlk1 : Cond.fieldLink own idx ref (TX6 f).2.1 (TX6 f).2.2.1 ∈ lw_all) (href : ref = (TX6 f).1) (d : decode cc pc = .ok (.getfield idx, 3)) (hv : (mFs b mi)[f]? = some v) (kk : VV l E X cc own nm nL R ret P (mH b mi ma ml) k n (pc + 3) lv (v :: st)) : VV l E X cc own nm nL R ret P (mH b mi ma ml) k n pc lv (va_rf (some (b 0)) :: st) :=
  v_get in_X6 (ci := 7) rfl f hf hlk1 href d (mH_obj hb) hv kk
theorem vm_put {idx : Nat} {ref : String} {x : Int32} (hb : mOK b) (f : Nat) (hf : f < 38) (hlk1 : Cond.fieldLink own idx ref (TX6 f).2.1 (TX6 f).2.2.1 ∈ lw_all) (href : ref = (TX6 f).1) (hfin : (TX6 f).2.2.2 = false) (hds : tyX6 f = .int) (d : decode cc pc = .ok (.putfield idx, 3)) (he : mi1 = upd mi f x) (hs : mFs b (upd mi f x) = (mFs b mi).set f (.int x)) (kk : VV l E X cc own nm nL R ret P (mH b mi1 ma ml) k n (pc + 3) lv st) : VV l E X cc own nm nL R ret P (mH b mi ma ml) k n pc lv (.int x :: va_rf (some (b 0)) :: st) := by
  subst he
  refine v_put in_X6 (ci := 7) (fs := mFs b mi) rfl f hf tyX6 tyX6_ok nmX6 hlk1 href hfin hds rfl rfl d (mH_obj hb) hf ?_
  refine v_heap (h' := mH b (upd mi f x) ma ml) ?_ kk
  refine mH_up (b := b) hb (k := 0) (by decide) ?_ (fun j _ hj => mcell_mi hj)
  show (Sum.inr (7, mFs b (upd mi f x)) : va_E) = _
  rw [hs]
end MROWS
