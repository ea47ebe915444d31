set_option maxRecDepth 100000
/-! NobodysBardModel -/
set_option maxRecDepth 100000
def RX6 : String := "NobodysBardModel"
def TX6 : u_T := fun k => match k with
  | 0 => ("NobodysBardModel", "thrown", "I", false)
  | 1 => ("NobodysBardModel", "refused", "[I", true)
  | 2 => ("NobodysBardModel", "all", "[I", true)
  | 3 => ("NobodysBardModel", "lines", "[J", true)
  | 4 => ("NobodysBardModel", "hasImage", "[Z", true)
  | 5 => ("NobodysBardModel", "common", "[I", true)
  | 6 => ("NobodysBardModel", "fashion", "[I", true)
  | 7 => ("NobodysBardModel", "law", "[I", true)
  | 8 => ("NobodysBardModel", "tape", "[I", true)
  | 9 => ("NobodysBardModel", "taped", "I", false)
  | 10 => ("NobodysBardModel", "at", "I", false)
  | 11 => ("NobodysBardModel", "behind", "I", false)
  | 12 => ("NobodysBardModel", "size", "I", false)
  | 13 => ("NobodysBardModel", "kind", "I", false)
  | 14 => ("NobodysBardModel", "number", "I", false)
  | 15 => ("NobodysBardModel", "wrong", "I", false)
  | 16 => ("NobodysBardModel", "wrongAt", "I", false)
  | 17 => ("NobodysBardModel", "depth", "I", false)
  | 18 => ("NobodysBardModel", "steps", "I", false)
  | 19 => ("NobodysBardModel", "faultKind", "I", false)
  | 20 => ("NobodysBardModel", "faultPlace", "I", false)
  | 21 => ("NobodysBardModel", "word", "[I", true)
  | 22 => ("NobodysBardModel", "made", "[I", true)
  | 23 => ("NobodysBardModel", "wordMany", "I", false)
  | 24 => ("NobodysBardModel", "pile", "[Z", true)
  | 25 => ("NobodysBardModel", "drawn", "I", false)
  | 26 => ("NobodysBardModel", "left", "[J", true)
  | 27 => ("NobodysBardModel", "smoothLine", "[J", true)
  | 28 => ("NobodysBardModel", "bestLike", "I", false)
  | 29 => ("NobodysBardModel", "bestFrom", "I", false)
  | 30 => ("NobodysBardModel", "whoseFrom", "I", false)
  | 31 => ("NobodysBardModel", "ofKind", "[I", true)
  | 32 => ("NobodysBardModel", "pairs", "I", false)
  | 33 => ("NobodysBardModel", "alike", "I", false)
  | 34 => ("NobodysBardModel", "costOf", "[I", true)
  | 35 => ("NobodysBardModel", "rowSort", "[I", true)
  | 36 => ("NobodysBardModel", "rowMany", "[I", true)
  | _ => ("NobodysBardModel", "cells", "[J", true)
def tyX6 : Nat → FieldType := fun k => match k with
  | 0 => .int
  | 1 => .array .int
  | 2 => .array .int
  | 3 => .array .long
  | 4 => .array .boolean
  | 5 => .array .int
  | 6 => .array .int
  | 7 => .array .int
  | 8 => .array .int
  | 9 => .int
  | 10 => .int
  | 11 => .int
  | 12 => .int
  | 13 => .int
  | 14 => .int
  | 15 => .int
  | 16 => .int
  | 17 => .int
  | 18 => .int
  | 19 => .int
  | 20 => .int
  | 21 => .array .int
  | 22 => .array .int
  | 23 => .int
  | 24 => .array .boolean
  | 25 => .int
  | 26 => .array .long
  | 27 => .array .long
  | 28 => .int
  | 29 => .int
  | 30 => .int
  | 31 => .array .int
  | 32 => .int
  | 33 => .int
  | 34 => .array .int
  | 35 => .array .int
  | 36 => .array .int
  | _ => .array .long
abbrev wsX60 : List Cond := u_ws RX6 TX6 38
set_option maxRecDepth 100000 in
theorem nmX6 : ∀ a, a < 38 → ∀ b, b < 38 → a ≠ b → (TX6 a).2.1 ≠ (TX6 b).2.1 := by decide +kernel
set_option maxRecDepth 100000 in
theorem tyX6_ok : ∀ k, k < 38 → parseFieldDescriptor (TX6 k).2.2.1 = some (tyX6 k) := by decide +kernel
theorem q113 : (Jvm.Cond.initialized "NobodysBardModel") ∈ lw_all := lw_g (lw_at lw_m1 10 rfl) rfl
theorem q502 : (Jvm.Cond.selects "NobodysBardModel" ({ cls := "java/lang/Object", name := "getClass", desc := "()Ljava/lang/Class;" } : Jvm.MethodName) ({ cls := "java/lang/Object", name := "getClass", desc := "()Ljava/lang/Class;" } : Jvm.MethodName)) ∈ lw_all := lw_g (lw_at lw_m2 159 rfl) rfl
theorem q1609 : (Jvm.Cond.instantiable "NobodysBardModel" (38 : Nat)) ∈ lw_all := lw_g (lw_at lw_m7 66 rfl) rfl
theorem q1611 : (Jvm.Cond.instanceMethod ({ cls := "NobodysBardModel", name := "<init>", desc := "()V" } : Jvm.MethodName)) ∈ lw_all := lw_g (lw_at lw_m7 68 rfl) rfl
theorem q1612 : (Jvm.Cond.code ({ cls := "NobodysBardModel", name := "<init>", desc := "()V" } : Jvm.MethodName) prog_28_method_4_code (1 : Nat) (Option.none : Option Jvm.ClassFile.FieldType)) ∈ lw_all := lw_g (lw_at lw_m7 69 rfl) rfl
theorem q1613 : (Jvm.Cond.methodLink "NobodysBardModel" (11 : Nat) ({ cls := "java/lang/Object", name := "<init>", desc := "()V" } : Jvm.MethodName)) ∈ lw_all := lw_g (lw_at lw_m7 70 rfl) rfl
theorem q1614 : (Jvm.Cond.fieldLink "NobodysBardModel" (1 : Nat) "NobodysBardModel" "thrown" "I") ∈ lw_all := lw_g (lw_at lw_m7 71 rfl) rfl
theorem q1615 : (Jvm.Cond.fieldLink "NobodysBardModel" (7 : Nat) "NobodysBardModel" "refused" "[I") ∈ lw_all := lw_g (lw_at lw_m7 72 rfl) rfl
theorem q1616 : (Jvm.Cond.fieldLink "NobodysBardModel" (17 : Nat) "NobodysBardModel" "all" "[I") ∈ lw_all := lw_g (lw_at lw_m7 73 rfl) rfl
theorem q1617 : (Jvm.Cond.fieldLink "NobodysBardModel" (20 : Nat) "NobodysBardModel" "lines" "[J") ∈ lw_all := lw_g (lw_at lw_m7 74 rfl) rfl
theorem q1618 : (Jvm.Cond.fieldLink "NobodysBardModel" (24 : Nat) "NobodysBardModel" "hasImage" "[Z") ∈ lw_all := lw_g (lw_at lw_m7 75 rfl) rfl
theorem q1619 : (Jvm.Cond.fieldLink "NobodysBardModel" (28 : Nat) "NobodysBardModel" "common" "[I") ∈ lw_all := lw_g (lw_at lw_m7 76 rfl) rfl
theorem q1620 : (Jvm.Cond.fieldLink "NobodysBardModel" (31 : Nat) "NobodysBardModel" "fashion" "[I") ∈ lw_all := lw_g (lw_at lw_m7 77 rfl) rfl
theorem q1621 : (Jvm.Cond.fieldLink "NobodysBardModel" (34 : Nat) "NobodysBardModel" "law" "[I") ∈ lw_all := lw_g (lw_at lw_m7 78 rfl) rfl
theorem q1622 : (Jvm.Cond.fieldLink "NobodysBardModel" (37 : Nat) "NobodysBardModel" "tape" "[I") ∈ lw_all := lw_g (lw_at lw_m7 79 rfl) rfl
theorem q1623 : (Jvm.Cond.fieldLink "NobodysBardModel" (115 : Nat) "NobodysBardModel" "taped" "I") ∈ lw_all := lw_g (lw_at lw_m7 80 rfl) rfl
theorem q1624 : (Jvm.Cond.fieldLink "NobodysBardModel" (133 : Nat) "NobodysBardModel" "at" "I") ∈ lw_all := lw_g (lw_at lw_m7 81 rfl) rfl
theorem q1625 : (Jvm.Cond.fieldLink "NobodysBardModel" (136 : Nat) "NobodysBardModel" "behind" "I") ∈ lw_all := lw_g (lw_at lw_m7 82 rfl) rfl
theorem q1626 : (Jvm.Cond.fieldLink "NobodysBardModel" (118 : Nat) "NobodysBardModel" "size" "I") ∈ lw_all := lw_g (lw_at lw_m7 83 rfl) rfl
theorem q1627 : (Jvm.Cond.fieldLink "NobodysBardModel" (142 : Nat) "NobodysBardModel" "kind" "I") ∈ lw_all := lw_g (lw_at lw_m7 84 rfl) rfl
theorem q1628 : (Jvm.Cond.fieldLink "NobodysBardModel" (155 : Nat) "NobodysBardModel" "number" "I") ∈ lw_all := lw_g (lw_at lw_m7 85 rfl) rfl
theorem q1629 : (Jvm.Cond.fieldLink "NobodysBardModel" (158 : Nat) "NobodysBardModel" "wrong" "I") ∈ lw_all := lw_g (lw_at lw_m7 86 rfl) rfl
theorem q1630 : (Jvm.Cond.fieldLink "NobodysBardModel" (161 : Nat) "NobodysBardModel" "wrongAt" "I") ∈ lw_all := lw_g (lw_at lw_m7 87 rfl) rfl
theorem q1631 : (Jvm.Cond.fieldLink "NobodysBardModel" (190 : Nat) "NobodysBardModel" "depth" "I") ∈ lw_all := lw_g (lw_at lw_m7 88 rfl) rfl
theorem q1632 : (Jvm.Cond.fieldLink "NobodysBardModel" (177 : Nat) "NobodysBardModel" "steps" "I") ∈ lw_all := lw_g (lw_at lw_m7 89 rfl) rfl
theorem q1633 : (Jvm.Cond.fieldLink "NobodysBardModel" (217 : Nat) "NobodysBardModel" "faultKind" "I") ∈ lw_all := lw_g (lw_at lw_m7 90 rfl) rfl
theorem q1634 : (Jvm.Cond.fieldLink "NobodysBardModel" (40 : Nat) "NobodysBardModel" "faultPlace" "I") ∈ lw_all := lw_g (lw_at lw_m7 91 rfl) rfl
theorem q1635 : (Jvm.Cond.fieldLink "NobodysBardModel" (43 : Nat) "NobodysBardModel" "word" "[I") ∈ lw_all := lw_g (lw_at lw_m7 92 rfl) rfl
theorem q1636 : (Jvm.Cond.fieldLink "NobodysBardModel" (46 : Nat) "NobodysBardModel" "made" "[I") ∈ lw_all := lw_g (lw_at lw_m7 93 rfl) rfl
theorem q1637 : (Jvm.Cond.fieldLink "NobodysBardModel" (220 : Nat) "NobodysBardModel" "wordMany" "I") ∈ lw_all := lw_g (lw_at lw_m7 94 rfl) rfl
theorem q1638 : (Jvm.Cond.fieldLink "NobodysBardModel" (49 : Nat) "NobodysBardModel" "pile" "[Z") ∈ lw_all := lw_g (lw_at lw_m7 95 rfl) rfl
theorem q1639 : (Jvm.Cond.fieldLink "NobodysBardModel" (241 : Nat) "NobodysBardModel" "drawn" "I") ∈ lw_all := lw_g (lw_at lw_m7 96 rfl) rfl
theorem q1640 : (Jvm.Cond.fieldLink "NobodysBardModel" (52 : Nat) "NobodysBardModel" "left" "[J") ∈ lw_all := lw_g (lw_at lw_m7 97 rfl) rfl
theorem q1641 : (Jvm.Cond.fieldLink "NobodysBardModel" (55 : Nat) "NobodysBardModel" "smoothLine" "[J") ∈ lw_all := lw_g (lw_at lw_m7 98 rfl) rfl
theorem q1642 : (Jvm.Cond.fieldLink "NobodysBardModel" (253 : Nat) "NobodysBardModel" "bestLike" "I") ∈ lw_all := lw_g (lw_at lw_m7 99 rfl) rfl
theorem q1643 : (Jvm.Cond.fieldLink "NobodysBardModel" (256 : Nat) "NobodysBardModel" "bestFrom" "I") ∈ lw_all := lw_g (lw_at lw_m7 100 rfl) rfl
theorem q1644 : (Jvm.Cond.fieldLink "NobodysBardModel" (266 : Nat) "NobodysBardModel" "whoseFrom" "I") ∈ lw_all := lw_g (lw_at lw_m7 101 rfl) rfl
theorem q1645 : (Jvm.Cond.fieldLink "NobodysBardModel" (58 : Nat) "NobodysBardModel" "ofKind" "[I") ∈ lw_all := lw_g (lw_at lw_m7 102 rfl) rfl
theorem q1646 : (Jvm.Cond.fieldLink "NobodysBardModel" (288 : Nat) "NobodysBardModel" "pairs" "I") ∈ lw_all := lw_g (lw_at lw_m7 103 rfl) rfl
theorem q1647 : (Jvm.Cond.fieldLink "NobodysBardModel" (291 : Nat) "NobodysBardModel" "alike" "I") ∈ lw_all := lw_g (lw_at lw_m7 104 rfl) rfl
theorem q1648 : (Jvm.Cond.fieldLink "NobodysBardModel" (61 : Nat) "NobodysBardModel" "costOf" "[I") ∈ lw_all := lw_g (lw_at lw_m7 105 rfl) rfl
theorem q1649 : (Jvm.Cond.fieldLink "NobodysBardModel" (64 : Nat) "NobodysBardModel" "rowSort" "[I") ∈ lw_all := lw_g (lw_at lw_m7 106 rfl) rfl
theorem q1650 : (Jvm.Cond.fieldLink "NobodysBardModel" (67 : Nat) "NobodysBardModel" "rowMany" "[I") ∈ lw_all := lw_g (lw_at lw_m7 107 rfl) rfl
theorem q1651 : (Jvm.Cond.fieldLink "NobodysBardModel" (70 : Nat) "NobodysBardModel" "cells" "[J") ∈ lw_all := lw_g (lw_at lw_m7 108 rfl) rfl
theorem q1652 : (Jvm.Cond.lays "NobodysBardModel" "NobodysBardModel" "thrown" "I") ∈ lw_all := lw_g (lw_at lw_m7 109 rfl) rfl
theorem q1653 : (Jvm.Cond.soleField "NobodysBardModel" "thrown") ∈ lw_all := lw_g (lw_at lw_m7 110 rfl) rfl
theorem q1654 : (Jvm.Cond.laysFinal "NobodysBardModel" "NobodysBardModel" "refused" "[I") ∈ lw_all := lw_g (lw_at lw_m7 111 rfl) rfl
theorem q1655 : (Jvm.Cond.soleField "NobodysBardModel" "refused") ∈ lw_all := lw_g (lw_at lw_m7 112 rfl) rfl
theorem q1656 : (Jvm.Cond.laysFinal "NobodysBardModel" "NobodysBardModel" "all" "[I") ∈ lw_all := lw_g (lw_at lw_m7 113 rfl) rfl
theorem q1657 : (Jvm.Cond.soleField "NobodysBardModel" "all") ∈ lw_all := lw_g (lw_at lw_m7 114 rfl) rfl
theorem q1658 : (Jvm.Cond.laysFinal "NobodysBardModel" "NobodysBardModel" "lines" "[J") ∈ lw_all := lw_g (lw_at lw_m7 115 rfl) rfl
theorem q1659 : (Jvm.Cond.soleField "NobodysBardModel" "lines") ∈ lw_all := lw_g (lw_at lw_m7 116 rfl) rfl
theorem q1660 : (Jvm.Cond.laysFinal "NobodysBardModel" "NobodysBardModel" "hasImage" "[Z") ∈ lw_all := lw_g (lw_at lw_m7 117 rfl) rfl
theorem q1661 : (Jvm.Cond.soleField "NobodysBardModel" "hasImage") ∈ lw_all := lw_g (lw_at lw_m7 118 rfl) rfl
theorem q1662 : (Jvm.Cond.laysFinal "NobodysBardModel" "NobodysBardModel" "common" "[I") ∈ lw_all := lw_g (lw_at lw_m7 119 rfl) rfl
theorem q1663 : (Jvm.Cond.soleField "NobodysBardModel" "common") ∈ lw_all := lw_g (lw_at lw_m7 120 rfl) rfl
theorem q1664 : (Jvm.Cond.laysFinal "NobodysBardModel" "NobodysBardModel" "fashion" "[I") ∈ lw_all := lw_g (lw_at lw_m7 121 rfl) rfl
theorem q1665 : (Jvm.Cond.soleField "NobodysBardModel" "fashion") ∈ lw_all := lw_g (lw_at lw_m7 122 rfl) rfl
theorem q1666 : (Jvm.Cond.laysFinal "NobodysBardModel" "NobodysBardModel" "law" "[I") ∈ lw_all := lw_g (lw_at lw_m7 123 rfl) rfl
theorem q1667 : (Jvm.Cond.soleField "NobodysBardModel" "law") ∈ lw_all := lw_g (lw_at lw_m7 124 rfl) rfl
theorem q1668 : (Jvm.Cond.laysFinal "NobodysBardModel" "NobodysBardModel" "tape" "[I") ∈ lw_all := lw_g (lw_at lw_m7 125 rfl) rfl
theorem q1669 : (Jvm.Cond.soleField "NobodysBardModel" "tape") ∈ lw_all := lw_g (lw_at lw_m7 126 rfl) rfl
theorem q1670 : (Jvm.Cond.lays "NobodysBardModel" "NobodysBardModel" "taped" "I") ∈ lw_all := lw_g (lw_at lw_m7 127 rfl) rfl
theorem q1671 : (Jvm.Cond.soleField "NobodysBardModel" "taped") ∈ lw_all := lw_g (lw_at lw_m7 128 rfl) rfl
theorem q1672 : (Jvm.Cond.lays "NobodysBardModel" "NobodysBardModel" "at" "I") ∈ lw_all := lw_g (lw_at lw_m7 129 rfl) rfl
theorem q1673 : (Jvm.Cond.soleField "NobodysBardModel" "at") ∈ lw_all := lw_g (lw_at lw_m7 130 rfl) rfl
theorem q1674 : (Jvm.Cond.lays "NobodysBardModel" "NobodysBardModel" "behind" "I") ∈ lw_all := lw_g (lw_at lw_m7 131 rfl) rfl
theorem q1675 : (Jvm.Cond.soleField "NobodysBardModel" "behind") ∈ lw_all := lw_g (lw_at lw_m7 132 rfl) rfl
theorem q1676 : (Jvm.Cond.lays "NobodysBardModel" "NobodysBardModel" "size" "I") ∈ lw_all := lw_g (lw_at lw_m7 133 rfl) rfl
theorem q1677 : (Jvm.Cond.soleField "NobodysBardModel" "size") ∈ lw_all := lw_g (lw_at lw_m7 134 rfl) rfl
theorem q1678 : (Jvm.Cond.lays "NobodysBardModel" "NobodysBardModel" "kind" "I") ∈ lw_all := lw_g (lw_at lw_m7 135 rfl) rfl
theorem q1679 : (Jvm.Cond.soleField "NobodysBardModel" "kind") ∈ lw_all := lw_g (lw_at lw_m7 136 rfl) rfl
theorem q1680 : (Jvm.Cond.lays "NobodysBardModel" "NobodysBardModel" "number" "I") ∈ lw_all := lw_g (lw_at lw_m7 137 rfl) rfl
theorem q1681 : (Jvm.Cond.soleField "NobodysBardModel" "number") ∈ lw_all := lw_g (lw_at lw_m7 138 rfl) rfl
theorem q1682 : (Jvm.Cond.lays "NobodysBardModel" "NobodysBardModel" "wrong" "I") ∈ lw_all := lw_g (lw_at lw_m7 139 rfl) rfl
theorem q1683 : (Jvm.Cond.soleField "NobodysBardModel" "wrong") ∈ lw_all := lw_g (lw_at lw_m7 140 rfl) rfl
theorem q1684 : (Jvm.Cond.lays "NobodysBardModel" "NobodysBardModel" "wrongAt" "I") ∈ lw_all := lw_g (lw_at lw_m7 141 rfl) rfl
theorem q1685 : (Jvm.Cond.soleField "NobodysBardModel" "wrongAt") ∈ lw_all := lw_g (lw_at lw_m7 142 rfl) rfl
theorem q1686 : (Jvm.Cond.lays "NobodysBardModel" "NobodysBardModel" "depth" "I") ∈ lw_all := lw_g (lw_at lw_m7 143 rfl) rfl
theorem q1687 : (Jvm.Cond.soleField "NobodysBardModel" "depth") ∈ lw_all := lw_g (lw_at lw_m7 144 rfl) rfl
theorem q1688 : (Jvm.Cond.lays "NobodysBardModel" "NobodysBardModel" "steps" "I") ∈ lw_all := lw_g (lw_at lw_m7 145 rfl) rfl
theorem q1689 : (Jvm.Cond.soleField "NobodysBardModel" "steps") ∈ lw_all := lw_g (lw_at lw_m7 146 rfl) rfl
theorem q1690 : (Jvm.Cond.lays "NobodysBardModel" "NobodysBardModel" "faultKind" "I") ∈ lw_all := lw_g (lw_at lw_m7 147 rfl) rfl
theorem q1691 : (Jvm.Cond.soleField "NobodysBardModel" "faultKind") ∈ lw_all := lw_g (lw_at lw_m7 148 rfl) rfl
theorem q1692 : (Jvm.Cond.lays "NobodysBardModel" "NobodysBardModel" "faultPlace" "I") ∈ lw_all := lw_g (lw_at lw_m7 149 rfl) rfl
theorem q1693 : (Jvm.Cond.soleField "NobodysBardModel" "faultPlace") ∈ lw_all := lw_g (lw_at lw_m7 150 rfl) rfl
theorem q1694 : (Jvm.Cond.laysFinal "NobodysBardModel" "NobodysBardModel" "word" "[I") ∈ lw_all := lw_g (lw_at lw_m7 151 rfl) rfl
theorem q1695 : (Jvm.Cond.soleField "NobodysBardModel" "word") ∈ lw_all := lw_g (lw_at lw_m7 152 rfl) rfl
theorem q1696 : (Jvm.Cond.laysFinal "NobodysBardModel" "NobodysBardModel" "made" "[I") ∈ lw_all := lw_g (lw_at lw_m7 153 rfl) rfl
theorem q1697 : (Jvm.Cond.soleField "NobodysBardModel" "made") ∈ lw_all := lw_g (lw_at lw_m7 154 rfl) rfl
theorem q1698 : (Jvm.Cond.lays "NobodysBardModel" "NobodysBardModel" "wordMany" "I") ∈ lw_all := lw_g (lw_at lw_m7 155 rfl) rfl
theorem q1699 : (Jvm.Cond.soleField "NobodysBardModel" "wordMany") ∈ lw_all := lw_g (lw_at lw_m7 156 rfl) rfl
theorem q1700 : (Jvm.Cond.laysFinal "NobodysBardModel" "NobodysBardModel" "pile" "[Z") ∈ lw_all := lw_g (lw_at lw_m7 157 rfl) rfl
theorem q1701 : (Jvm.Cond.soleField "NobodysBardModel" "pile") ∈ lw_all := lw_g (lw_at lw_m7 158 rfl) rfl
theorem q1702 : (Jvm.Cond.lays "NobodysBardModel" "NobodysBardModel" "drawn" "I") ∈ lw_all := lw_g (lw_at lw_m7 159 rfl) rfl
theorem q1703 : (Jvm.Cond.soleField "NobodysBardModel" "drawn") ∈ lw_all := lw_g (lw_at lw_m7 160 rfl) rfl
theorem q1704 : (Jvm.Cond.laysFinal "NobodysBardModel" "NobodysBardModel" "left" "[J") ∈ lw_all := lw_g (lw_at lw_m7 161 rfl) rfl
theorem q1705 : (Jvm.Cond.soleField "NobodysBardModel" "left") ∈ lw_all := lw_g (lw_at lw_m7 162 rfl) rfl
theorem q1706 : (Jvm.Cond.laysFinal "NobodysBardModel" "NobodysBardModel" "smoothLine" "[J") ∈ lw_all := lw_g (lw_at lw_m7 163 rfl) rfl
theorem q1707 : (Jvm.Cond.soleField "NobodysBardModel" "smoothLine") ∈ lw_all := lw_g (lw_at lw_m7 164 rfl) rfl
theorem q1708 : (Jvm.Cond.lays "NobodysBardModel" "NobodysBardModel" "bestLike" "I") ∈ lw_all := lw_g (lw_at lw_m7 165 rfl) rfl
theorem q1709 : (Jvm.Cond.soleField "NobodysBardModel" "bestLike") ∈ lw_all := lw_g (lw_at lw_m7 166 rfl) rfl
theorem q1710 : (Jvm.Cond.lays "NobodysBardModel" "NobodysBardModel" "bestFrom" "I") ∈ lw_all := lw_g (lw_at lw_m7 167 rfl) rfl
theorem q1711 : (Jvm.Cond.soleField "NobodysBardModel" "bestFrom") ∈ lw_all := lw_g (lw_at lw_m7 168 rfl) rfl
theorem q1712 : (Jvm.Cond.lays "NobodysBardModel" "NobodysBardModel" "whoseFrom" "I") ∈ lw_all := lw_g (lw_at lw_m7 169 rfl) rfl
theorem q1713 : (Jvm.Cond.soleField "NobodysBardModel" "whoseFrom") ∈ lw_all := lw_g (lw_at lw_m7 170 rfl) rfl
theorem q1714 : (Jvm.Cond.laysFinal "NobodysBardModel" "NobodysBardModel" "ofKind" "[I") ∈ lw_all := lw_g (lw_at lw_m7 171 rfl) rfl
theorem q1715 : (Jvm.Cond.soleField "NobodysBardModel" "ofKind") ∈ lw_all := lw_g (lw_at lw_m7 172 rfl) rfl
theorem q1716 : (Jvm.Cond.lays "NobodysBardModel" "NobodysBardModel" "pairs" "I") ∈ lw_all := lw_g (lw_at lw_m7 173 rfl) rfl
theorem q1717 : (Jvm.Cond.soleField "NobodysBardModel" "pairs") ∈ lw_all := lw_g (lw_at lw_m7 174 rfl) rfl
theorem q1718 : (Jvm.Cond.lays "NobodysBardModel" "NobodysBardModel" "alike" "I") ∈ lw_all := lw_g (lw_at lw_m7 175 rfl) rfl
theorem q1719 : (Jvm.Cond.soleField "NobodysBardModel" "alike") ∈ lw_all := lw_g (lw_at lw_m7 176 rfl) rfl
theorem q1720 : (Jvm.Cond.laysFinal "NobodysBardModel" "NobodysBardModel" "costOf" "[I") ∈ lw_all := lw_g (lw_at lw_m7 177 rfl) rfl
theorem q1721 : (Jvm.Cond.soleField "NobodysBardModel" "costOf") ∈ lw_all := lw_g (lw_at lw_m7 178 rfl) rfl
theorem q1722 : (Jvm.Cond.laysFinal "NobodysBardModel" "NobodysBardModel" "rowSort" "[I") ∈ lw_all := lw_g (lw_at lw_m7 179 rfl) rfl
theorem q1723 : (Jvm.Cond.soleField "NobodysBardModel" "rowSort") ∈ lw_all := lw_g (lw_at lw_m7 180 rfl) rfl
theorem q1724 : (Jvm.Cond.laysFinal "NobodysBardModel" "NobodysBardModel" "rowMany" "[I") ∈ lw_all := lw_g (lw_at lw_m7 181 rfl) rfl
theorem q1725 : (Jvm.Cond.soleField "NobodysBardModel" "rowMany") ∈ lw_all := lw_g (lw_at lw_m7 182 rfl) rfl
theorem q1726 : (Jvm.Cond.laysFinal "NobodysBardModel" "NobodysBardModel" "cells" "[J") ∈ lw_all := lw_g (lw_at lw_m7 183 rfl) rfl
theorem q1727 : (Jvm.Cond.soleField "NobodysBardModel" "cells") ∈ lw_all := lw_g (lw_at lw_m7 184 rfl) rfl
theorem q1728 : (Jvm.Cond.superclass "NobodysBardModel" "java/lang/Object") ∈ lw_all := lw_g (lw_at lw_m7 185 rfl) rfl
theorem q1731 : (Jvm.Cond.instanceMethod ({ cls := "NobodysBardModel", name := "open", desc := "(IIII)I" } : Jvm.MethodName)) ∈ lw_all := lw_g (lw_at lw_m7 188 rfl) rfl
theorem q1732 : (Jvm.Cond.selects "NobodysBardModel" ({ cls := "NobodysBardModel", name := "open", desc := "(IIII)I" } : Jvm.MethodName) ({ cls := "NobodysBardModel", name := "open", desc := "(IIII)I" } : Jvm.MethodName)) ∈ lw_all := lw_g (lw_at lw_m7 189 rfl) rfl
theorem q1733 : (Jvm.Cond.code ({ cls := "NobodysBardModel", name := "open", desc := "(IIII)I" } : Jvm.MethodName) prog_28_method_9_code (5 : Nat) (Option.some Jvm.ClassFile.FieldType.int)) ∈ lw_all := lw_g (lw_at lw_m7 190 rfl) rfl
theorem q1734 : (Jvm.Cond.methodLink "NobodysBardModel" (81 : Nat) ({ cls := "NobodysBardModel", name := "within", desc := "(JJJ)Z" } : Jvm.MethodName)) ∈ lw_all := lw_g (lw_at lw_m7 191 rfl) rfl
theorem q1735 : (Jvm.Cond.static ({ cls := "NobodysBardModel", name := "within", desc := "(JJJ)Z" } : Jvm.MethodName)) ∈ lw_all := lw_g (lw_at lw_m7 192 rfl) rfl
theorem q1736 : (Jvm.Cond.code ({ cls := "NobodysBardModel", name := "within", desc := "(JJJ)Z" } : Jvm.MethodName) prog_28_method_3_code (6 : Nat) (Option.some Jvm.ClassFile.FieldType.boolean)) ∈ lw_all := lw_g (lw_at lw_m7 193 rfl) rfl
theorem q1737 : (Jvm.Cond.methodLink "NobodysBardModel" (85 : Nat) ({ cls := "NobodysBardModel", name := "no", desc := "(I)I" } : Jvm.MethodName)) ∈ lw_all := lw_g (lw_at lw_m7 194 rfl) rfl
theorem q1738 : (Jvm.Cond.privateMethod ({ cls := "NobodysBardModel", name := "no", desc := "(I)I" } : Jvm.MethodName)) ∈ lw_tbl := lw_at lw_m7 195 rfl
theorem q1739 : (Jvm.Cond.instanceMethod ({ cls := "NobodysBardModel", name := "no", desc := "(I)I" } : Jvm.MethodName)) ∈ lw_all := lw_g (lw_at lw_m7 196 rfl) rfl
theorem q1740 : (Jvm.Cond.code ({ cls := "NobodysBardModel", name := "no", desc := "(I)I" } : Jvm.MethodName) prog_28_method_2_code (2 : Nat) (Option.some Jvm.ClassFile.FieldType.int)) ∈ lw_all := lw_g (lw_at lw_m7 197 rfl) rfl
theorem q1741 : (Jvm.Cond.constantLong "NobodysBardModel" (89 : Nat) (9 : Int64)) ∈ lw_all := lw_g (lw_at lw_m7 198 rfl) rfl
theorem q1742 : (Jvm.Cond.constantLong "NobodysBardModel" (91 : Nat) (15 : Int64)) ∈ lw_all := lw_g (lw_at lw_m7 199 rfl) rfl
theorem q1743 : (Jvm.Cond.constantLong "NobodysBardModel" (93 : Nat) (9999 : Int64)) ∈ lw_all := lw_g (lw_at lw_m7 200 rfl) rfl
theorem q1744 : (Jvm.Cond.constantLong "NobodysBardModel" (95 : Nat) (5 : Int64)) ∈ lw_all := lw_g (lw_at lw_m7 201 rfl) rfl
theorem q1745 : (Jvm.Cond.methodLink "NobodysBardModel" (97 : Nat) ({ cls := "NobodysBardModel", name := "opens", desc := "(III)I" } : Jvm.MethodName)) ∈ lw_all := lw_g (lw_at lw_m7 202 rfl) rfl
theorem q1746 : (Jvm.Cond.privateMethod ({ cls := "NobodysBardModel", name := "opens", desc := "(III)I" } : Jvm.MethodName)) ∈ lw_tbl := lw_at lw_m7 203 rfl
theorem q1747 : (Jvm.Cond.instanceMethod ({ cls := "NobodysBardModel", name := "opens", desc := "(III)I" } : Jvm.MethodName)) ∈ lw_all := lw_g (lw_at lw_m7 204 rfl) rfl
theorem q1748 : (Jvm.Cond.code ({ cls := "NobodysBardModel", name := "opens", desc := "(III)I" } : Jvm.MethodName) prog_28_method_10_code (5 : Nat) (Option.some Jvm.ClassFile.FieldType.int)) ∈ lw_all := lw_g (lw_at lw_m7 205 rfl) rfl
theorem q1750 : (Jvm.Cond.instanceMethod ({ cls := "NobodysBardModel", name := "line", desc := "(IIIJ)I" } : Jvm.MethodName)) ∈ lw_all := lw_g (lw_at lw_m7 207 rfl) rfl
theorem q1751 : (Jvm.Cond.selects "NobodysBardModel" ({ cls := "NobodysBardModel", name := "line", desc := "(IIIJ)I" } : Jvm.MethodName) ({ cls := "NobodysBardModel", name := "line", desc := "(IIIJ)I" } : Jvm.MethodName)) ∈ lw_all := lw_g (lw_at lw_m7 208 rfl) rfl
theorem q1752 : (Jvm.Cond.code ({ cls := "NobodysBardModel", name := "line", desc := "(IIIJ)I" } : Jvm.MethodName) prog_28_method_11_code (7 : Nat) (Option.some Jvm.ClassFile.FieldType.int)) ∈ lw_all := lw_g (lw_at lw_m7 209 rfl) rfl
theorem q1753 : (Jvm.Cond.methodLink "NobodysBardModel" (77 : Nat) ({ cls := "NobodysBardModel", name := "lengthOf", desc := "(J)I" } : Jvm.MethodName)) ∈ lw_all := lw_g (lw_at lw_m7 210 rfl) rfl
theorem q1754 : (Jvm.Cond.static ({ cls := "NobodysBardModel", name := "lengthOf", desc := "(J)I" } : Jvm.MethodName)) ∈ lw_all := lw_g (lw_at lw_m7 211 rfl) rfl
theorem q1755 : (Jvm.Cond.code ({ cls := "NobodysBardModel", name := "lengthOf", desc := "(J)I" } : Jvm.MethodName) prog_28_method_6_code (3 : Nat) (Option.some Jvm.ClassFile.FieldType.int)) ∈ lw_all := lw_g (lw_at lw_m7 212 rfl) rfl
theorem q1756 : (Jvm.Cond.methodLink "NobodysBardModel" (73 : Nat) ({ cls := "NobodysBardModel", name := "wordAt", desc := "(JI)I" } : Jvm.MethodName)) ∈ lw_all := lw_g (lw_at lw_m7 213 rfl) rfl
theorem q1757 : (Jvm.Cond.static ({ cls := "NobodysBardModel", name := "wordAt", desc := "(JI)I" } : Jvm.MethodName)) ∈ lw_all := lw_g (lw_at lw_m7 214 rfl) rfl
theorem q1758 : (Jvm.Cond.code ({ cls := "NobodysBardModel", name := "wordAt", desc := "(JI)I" } : Jvm.MethodName) prog_28_method_5_code (3 : Nat) (Option.some Jvm.ClassFile.FieldType.int)) ∈ lw_all := lw_g (lw_at lw_m7 215 rfl) rfl
theorem q1759 : (Jvm.Cond.methodLink "NobodysBardModel" (101 : Nat) ({ cls := "NobodysBardModel", name := "plain", desc := "(J)J" } : Jvm.MethodName)) ∈ lw_all := lw_g (lw_at lw_m7 216 rfl) rfl
theorem q1760 : (Jvm.Cond.static ({ cls := "NobodysBardModel", name := "plain", desc := "(J)J" } : Jvm.MethodName)) ∈ lw_all := lw_g (lw_at lw_m7 217 rfl) rfl
theorem q1761 : (Jvm.Cond.code ({ cls := "NobodysBardModel", name := "plain", desc := "(J)J" } : Jvm.MethodName) prog_28_method_7_code (6 : Nat) (Option.some Jvm.ClassFile.FieldType.long)) ∈ lw_all := lw_g (lw_at lw_m7 218 rfl) rfl
theorem q1763 : (Jvm.Cond.instanceMethod ({ cls := "NobodysBardModel", name := "print", desc := "(I)I" } : Jvm.MethodName)) ∈ lw_all := lw_g (lw_at lw_m7 220 rfl) rfl
theorem q1764 : (Jvm.Cond.selects "NobodysBardModel" ({ cls := "NobodysBardModel", name := "print", desc := "(I)I" } : Jvm.MethodName) ({ cls := "NobodysBardModel", name := "print", desc := "(I)I" } : Jvm.MethodName)) ∈ lw_all := lw_g (lw_at lw_m7 221 rfl) rfl
theorem q1765 : (Jvm.Cond.code ({ cls := "NobodysBardModel", name := "print", desc := "(I)I" } : Jvm.MethodName) prog_28_method_12_code (3 : Nat) (Option.some Jvm.ClassFile.FieldType.int)) ∈ lw_all := lw_g (lw_at lw_m7 222 rfl) rfl
theorem q1767 : (Jvm.Cond.instanceMethod ({ cls := "NobodysBardModel", name := "bounds", desc := "(II)I" } : Jvm.MethodName)) ∈ lw_all := lw_g (lw_at lw_m7 224 rfl) rfl
theorem q1768 : (Jvm.Cond.selects "NobodysBardModel" ({ cls := "NobodysBardModel", name := "bounds", desc := "(II)I" } : Jvm.MethodName) ({ cls := "NobodysBardModel", name := "bounds", desc := "(II)I" } : Jvm.MethodName)) ∈ lw_all := lw_g (lw_at lw_m7 225 rfl) rfl
theorem q1769 : (Jvm.Cond.code ({ cls := "NobodysBardModel", name := "bounds", desc := "(II)I" } : Jvm.MethodName) prog_28_method_13_code (3 : Nat) (Option.some Jvm.ClassFile.FieldType.int)) ∈ lw_all := lw_g (lw_at lw_m7 226 rfl) rfl
theorem q1770 : (Jvm.Cond.constantLong "NobodysBardModel" (105 : Nat) (100 : Int64)) ∈ lw_all := lw_g (lw_at lw_m7 227 rfl) rfl
theorem q1772 : (Jvm.Cond.instanceMethod ({ cls := "NobodysBardModel", name := "words", desc := "(III)J" } : Jvm.MethodName)) ∈ lw_all := lw_g (lw_at lw_m7 229 rfl) rfl
theorem q1773 : (Jvm.Cond.selects "NobodysBardModel" ({ cls := "NobodysBardModel", name := "words", desc := "(III)J" } : Jvm.MethodName) ({ cls := "NobodysBardModel", name := "words", desc := "(III)J" } : Jvm.MethodName)) ∈ lw_all := lw_g (lw_at lw_m7 230 rfl) rfl
theorem q1774 : (Jvm.Cond.code ({ cls := "NobodysBardModel", name := "words", desc := "(III)J" } : Jvm.MethodName) prog_28_method_15_code (4 : Nat) (Option.some Jvm.ClassFile.FieldType.long)) ∈ lw_all := lw_g (lw_at lw_m7 231 rfl) rfl
theorem q1775 : (Jvm.Cond.methodLink "NobodysBardModel" (107 : Nat) ({ cls := "NobodysBardModel", name := "isLine", desc := "(III)Z" } : Jvm.MethodName)) ∈ lw_all := lw_g (lw_at lw_m7 232 rfl) rfl
theorem q1776 : (Jvm.Cond.privateMethod ({ cls := "NobodysBardModel", name := "isLine", desc := "(III)Z" } : Jvm.MethodName)) ∈ lw_tbl := lw_at lw_m7 233 rfl
theorem q1777 : (Jvm.Cond.instanceMethod ({ cls := "NobodysBardModel", name := "isLine", desc := "(III)Z" } : Jvm.MethodName)) ∈ lw_all := lw_g (lw_at lw_m7 234 rfl) rfl
theorem q1778 : (Jvm.Cond.code ({ cls := "NobodysBardModel", name := "isLine", desc := "(III)Z" } : Jvm.MethodName) prog_28_method_14_code (4 : Nat) (Option.some Jvm.ClassFile.FieldType.boolean)) ∈ lw_all := lw_g (lw_at lw_m7 235 rfl) rfl
theorem q1780 : (Jvm.Cond.instanceMethod ({ cls := "NobodysBardModel", name := "like", desc := "(JJ)I" } : Jvm.MethodName)) ∈ lw_all := lw_g (lw_at lw_m7 237 rfl) rfl
theorem q1781 : (Jvm.Cond.selects "NobodysBardModel" ({ cls := "NobodysBardModel", name := "like", desc := "(JJ)I" } : Jvm.MethodName) ({ cls := "NobodysBardModel", name := "like", desc := "(JJ)I" } : Jvm.MethodName)) ∈ lw_all := lw_g (lw_at lw_m7 238 rfl) rfl
theorem q1782 : (Jvm.Cond.code ({ cls := "NobodysBardModel", name := "like", desc := "(JJ)I" } : Jvm.MethodName) prog_28_method_16_code (5 : Nat) (Option.some Jvm.ClassFile.FieldType.int)) ∈ lw_all := lw_g (lw_at lw_m7 239 rfl) rfl
theorem q1783 : (Jvm.Cond.methodLink "NobodysBardModel" (111 : Nat) ({ cls := "NobodysBardModel", name := "likeOf", desc := "(JJ)I" } : Jvm.MethodName)) ∈ lw_all := lw_g (lw_at lw_m8 0 rfl) rfl
theorem q1784 : (Jvm.Cond.privateMethod ({ cls := "NobodysBardModel", name := "likeOf", desc := "(JJ)I" } : Jvm.MethodName)) ∈ lw_tbl := lw_at lw_m8 1 rfl
theorem q1785 : (Jvm.Cond.instanceMethod ({ cls := "NobodysBardModel", name := "likeOf", desc := "(JJ)I" } : Jvm.MethodName)) ∈ lw_all := lw_g (lw_at lw_m8 2 rfl) rfl
theorem q1786 : (Jvm.Cond.code ({ cls := "NobodysBardModel", name := "likeOf", desc := "(JJ)I" } : Jvm.MethodName) prog_28_method_8_code (10 : Nat) (Option.some Jvm.ClassFile.FieldType.int)) ∈ lw_all := lw_g (lw_at lw_m8 3 rfl) rfl
theorem q1788 : (Jvm.Cond.instanceMethod ({ cls := "NobodysBardModel", name := "feed", desc := "(IIIII)I" } : Jvm.MethodName)) ∈ lw_all := lw_g (lw_at lw_m8 5 rfl) rfl
theorem q1789 : (Jvm.Cond.selects "NobodysBardModel" ({ cls := "NobodysBardModel", name := "feed", desc := "(IIIII)I" } : Jvm.MethodName) ({ cls := "NobodysBardModel", name := "feed", desc := "(IIIII)I" } : Jvm.MethodName)) ∈ lw_all := lw_g (lw_at lw_m8 6 rfl) rfl
theorem q1790 : (Jvm.Cond.code ({ cls := "NobodysBardModel", name := "feed", desc := "(IIIII)I" } : Jvm.MethodName) prog_28_method_17_code (8 : Nat) (Option.some Jvm.ClassFile.FieldType.int)) ∈ lw_all := lw_g (lw_at lw_m8 7 rfl) rfl
theorem q1792 : (Jvm.Cond.instanceMethod ({ cls := "NobodysBardModel", name := "text", desc := "(II)I" } : Jvm.MethodName)) ∈ lw_all := lw_g (lw_at lw_m8 9 rfl) rfl
theorem q1793 : (Jvm.Cond.selects "NobodysBardModel" ({ cls := "NobodysBardModel", name := "text", desc := "(II)I" } : Jvm.MethodName) ({ cls := "NobodysBardModel", name := "text", desc := "(II)I" } : Jvm.MethodName)) ∈ lw_all := lw_g (lw_at lw_m8 10 rfl) rfl
theorem q1794 : (Jvm.Cond.code ({ cls := "NobodysBardModel", name := "text", desc := "(II)I" } : Jvm.MethodName) prog_28_method_35_code (4 : Nat) (Option.some Jvm.ClassFile.FieldType.int)) ∈ lw_all := lw_g (lw_at lw_m8 11 rfl) rfl
theorem q1795 : (Jvm.Cond.methodLink "NobodysBardModel" (167 : Nat) ({ cls := "NobodysBardModel", name := "next", desc := "()V" } : Jvm.MethodName)) ∈ lw_all := lw_g (lw_at lw_m8 12 rfl) rfl
theorem q1796 : (Jvm.Cond.privateMethod ({ cls := "NobodysBardModel", name := "next", desc := "()V" } : Jvm.MethodName)) ∈ lw_tbl := lw_at lw_m8 13 rfl
theorem q1797 : (Jvm.Cond.instanceMethod ({ cls := "NobodysBardModel", name := "next", desc := "()V" } : Jvm.MethodName)) ∈ lw_all := lw_g (lw_at lw_m8 14 rfl) rfl
theorem q1798 : (Jvm.Cond.code ({ cls := "NobodysBardModel", name := "next", desc := "()V" } : Jvm.MethodName) prog_28_method_22_code (1 : Nat) (Option.none : Option Jvm.ClassFile.FieldType)) ∈ lw_all := lw_g (lw_at lw_m8 15 rfl) rfl
theorem q1799 : (Jvm.Cond.methodLink "NobodysBardModel" (139 : Nat) ({ cls := "NobodysBardModel", name := "see", desc := "(I)I" } : Jvm.MethodName)) ∈ lw_all := lw_g (lw_at lw_m8 16 rfl) rfl
theorem q1800 : (Jvm.Cond.privateMethod ({ cls := "NobodysBardModel", name := "see", desc := "(I)I" } : Jvm.MethodName)) ∈ lw_tbl := lw_at lw_m8 17 rfl
theorem q1801 : (Jvm.Cond.instanceMethod ({ cls := "NobodysBardModel", name := "see", desc := "(I)I" } : Jvm.MethodName)) ∈ lw_all := lw_g (lw_at lw_m8 18 rfl) rfl
theorem q1802 : (Jvm.Cond.code ({ cls := "NobodysBardModel", name := "see", desc := "(I)I" } : Jvm.MethodName) prog_28_method_18_code (2 : Nat) (Option.some Jvm.ClassFile.FieldType.int)) ∈ lw_all := lw_g (lw_at lw_m8 19 rfl) rfl
theorem q1803 : (Jvm.Cond.methodLink "NobodysBardModel" (145 : Nat) ({ cls := "NobodysBardModel", name := "isSmall", desc := "(I)Z" } : Jvm.MethodName)) ∈ lw_all := lw_g (lw_at lw_m8 20 rfl) rfl
theorem q1804 : (Jvm.Cond.static ({ cls := "NobodysBardModel", name := "isSmall", desc := "(I)Z" } : Jvm.MethodName)) ∈ lw_all := lw_g (lw_at lw_m8 21 rfl) rfl
theorem q1805 : (Jvm.Cond.code ({ cls := "NobodysBardModel", name := "isSmall", desc := "(I)Z" } : Jvm.MethodName) prog_28_method_19_code (1 : Nat) (Option.some Jvm.ClassFile.FieldType.boolean)) ∈ lw_all := lw_g (lw_at lw_m8 22 rfl) rfl
theorem q1806 : (Jvm.Cond.methodLink "NobodysBardModel" (149 : Nat) ({ cls := "NobodysBardModel", name := "keyAt", desc := "()I" } : Jvm.MethodName)) ∈ lw_all := lw_g (lw_at lw_m8 23 rfl) rfl
theorem q1807 : (Jvm.Cond.privateMethod ({ cls := "NobodysBardModel", name := "keyAt", desc := "()I" } : Jvm.MethodName)) ∈ lw_tbl := lw_at lw_m8 24 rfl
theorem q1808 : (Jvm.Cond.instanceMethod ({ cls := "NobodysBardModel", name := "keyAt", desc := "()I" } : Jvm.MethodName)) ∈ lw_all := lw_g (lw_at lw_m8 25 rfl) rfl
theorem q1809 : (Jvm.Cond.code ({ cls := "NobodysBardModel", name := "keyAt", desc := "()I" } : Jvm.MethodName) prog_28_method_21_code (4 : Nat) (Option.some Jvm.ClassFile.FieldType.int)) ∈ lw_all := lw_g (lw_at lw_m8 26 rfl) rfl
theorem q1810 : (Jvm.Cond.stringRef "NobodysBardModel" (121 : Nat) " become if not and or has long tale lose move smooth say for ") ∈ lw_tbl := lw_at lw_m8 27 rfl
theorem q1811 : (Jvm.Cond.methodLink "NobodysBardModel" (123 : Nat) ({ cls := "java/lang/String", name := "length", desc := "()I" } : Jvm.MethodName)) ∈ lw_all := lw_g (lw_at lw_m8 28 rfl) rfl
theorem q1812 : (Jvm.Cond.methodLink "NobodysBardModel" (129 : Nat) ({ cls := "java/lang/String", name := "charAt", desc := "(I)C" } : Jvm.MethodName)) ∈ lw_all := lw_g (lw_at lw_m8 29 rfl) rfl
theorem q1813 : (Jvm.Cond.methodLink "NobodysBardModel" (152 : Nat) ({ cls := "NobodysBardModel", name := "isDigit", desc := "(I)Z" } : Jvm.MethodName)) ∈ lw_all := lw_g (lw_at lw_m8 30 rfl) rfl
theorem q1814 : (Jvm.Cond.static ({ cls := "NobodysBardModel", name := "isDigit", desc := "(I)Z" } : Jvm.MethodName)) ∈ lw_all := lw_g (lw_at lw_m8 31 rfl) rfl
theorem q1815 : (Jvm.Cond.code ({ cls := "NobodysBardModel", name := "isDigit", desc := "(I)Z" } : Jvm.MethodName) prog_28_method_20_code (1 : Nat) (Option.some Jvm.ClassFile.FieldType.boolean)) ∈ lw_all := lw_g (lw_at lw_m8 32 rfl) rfl
theorem q1816 : (Jvm.Cond.methodLink "NobodysBardModel" (211 : Nat) ({ cls := "NobodysBardModel", name := "readRule", desc := "()V" } : Jvm.MethodName)) ∈ lw_all := lw_g (lw_at lw_m8 33 rfl) rfl
theorem q1817 : (Jvm.Cond.privateMethod ({ cls := "NobodysBardModel", name := "readRule", desc := "()V" } : Jvm.MethodName)) ∈ lw_tbl := lw_at lw_m8 34 rfl
theorem q1818 : (Jvm.Cond.instanceMethod ({ cls := "NobodysBardModel", name := "readRule", desc := "()V" } : Jvm.MethodName)) ∈ lw_all := lw_g (lw_at lw_m8 35 rfl) rfl
theorem q1819 : (Jvm.Cond.code ({ cls := "NobodysBardModel", name := "readRule", desc := "()V" } : Jvm.MethodName) prog_28_method_33_code (6 : Nat) (Option.none : Option Jvm.ClassFile.FieldType)) ∈ lw_all := lw_g (lw_at lw_m8 36 rfl) rfl
theorem q1820 : (Jvm.Cond.methodLink "NobodysBardModel" (203 : Nat) ({ cls := "NobodysBardModel", name := "side", desc := "(IZ)I" } : Jvm.MethodName)) ∈ lw_all := lw_g (lw_at lw_m8 37 rfl) rfl
theorem q1821 : (Jvm.Cond.privateMethod ({ cls := "NobodysBardModel", name := "side", desc := "(IZ)I" } : Jvm.MethodName)) ∈ lw_tbl := lw_at lw_m8 38 rfl
theorem q1822 : (Jvm.Cond.instanceMethod ({ cls := "NobodysBardModel", name := "side", desc := "(IZ)I" } : Jvm.MethodName)) ∈ lw_all := lw_g (lw_at lw_m8 39 rfl) rfl
theorem q1823 : (Jvm.Cond.code ({ cls := "NobodysBardModel", name := "side", desc := "(IZ)I" } : Jvm.MethodName) prog_28_method_32_code (6 : Nat) (Option.some Jvm.ClassFile.FieldType.int)) ∈ lw_all := lw_g (lw_at lw_m8 40 rfl) rfl
theorem q1824 : (Jvm.Cond.methodLink "NobodysBardModel" (199 : Nat) ({ cls := "NobodysBardModel", name := "reads", desc := "(IIZ)I" } : Jvm.MethodName)) ∈ lw_all := lw_g (lw_at lw_m8 41 rfl) rfl
theorem q1825 : (Jvm.Cond.privateMethod ({ cls := "NobodysBardModel", name := "reads", desc := "(IIZ)I" } : Jvm.MethodName)) ∈ lw_tbl := lw_at lw_m8 42 rfl
theorem q1826 : (Jvm.Cond.instanceMethod ({ cls := "NobodysBardModel", name := "reads", desc := "(IIZ)I" } : Jvm.MethodName)) ∈ lw_all := lw_g (lw_at lw_m8 43 rfl) rfl
theorem q1827 : (Jvm.Cond.code ({ cls := "NobodysBardModel", name := "reads", desc := "(IIZ)I" } : Jvm.MethodName) prog_28_method_27_code (5 : Nat) (Option.some Jvm.ClassFile.FieldType.int)) ∈ lw_all := lw_g (lw_at lw_m8 44 rfl) rfl
theorem q1828 : (Jvm.Cond.methodLink "NobodysBardModel" (164 : Nat) ({ cls := "NobodysBardModel", name := "is", desc := "(I)Z" } : Jvm.MethodName)) ∈ lw_all := lw_g (lw_at lw_m8 45 rfl) rfl
theorem q1829 : (Jvm.Cond.privateMethod ({ cls := "NobodysBardModel", name := "is", desc := "(I)Z" } : Jvm.MethodName)) ∈ lw_tbl := lw_at lw_m8 46 rfl
theorem q1830 : (Jvm.Cond.instanceMethod ({ cls := "NobodysBardModel", name := "is", desc := "(I)Z" } : Jvm.MethodName)) ∈ lw_all := lw_g (lw_at lw_m8 47 rfl) rfl
theorem q1831 : (Jvm.Cond.code ({ cls := "NobodysBardModel", name := "is", desc := "(I)Z" } : Jvm.MethodName) prog_28_method_24_code (2 : Nat) (Option.some Jvm.ClassFile.FieldType.boolean)) ∈ lw_all := lw_g (lw_at lw_m8 48 rfl) rfl
theorem q1832 : (Jvm.Cond.methodLink "NobodysBardModel" (173 : Nat) ({ cls := "NobodysBardModel", name := "fails", desc := "(I)V" } : Jvm.MethodName)) ∈ lw_all := lw_g (lw_at lw_m8 49 rfl) rfl
theorem q1833 : (Jvm.Cond.privateMethod ({ cls := "NobodysBardModel", name := "fails", desc := "(I)V" } : Jvm.MethodName)) ∈ lw_tbl := lw_at lw_m8 50 rfl
theorem q1834 : (Jvm.Cond.instanceMethod ({ cls := "NobodysBardModel", name := "fails", desc := "(I)V" } : Jvm.MethodName)) ∈ lw_all := lw_g (lw_at lw_m8 51 rfl) rfl
theorem q1835 : (Jvm.Cond.code ({ cls := "NobodysBardModel", name := "fails", desc := "(I)V" } : Jvm.MethodName) prog_28_method_23_code (2 : Nat) (Option.none : Option Jvm.ClassFile.FieldType)) ∈ lw_all := lw_g (lw_at lw_m8 52 rfl) rfl
theorem q1836 : (Jvm.Cond.methodLink "NobodysBardModel" (196 : Nat) ({ cls := "NobodysBardModel", name := "needs", desc := "(I)V" } : Jvm.MethodName)) ∈ lw_all := lw_g (lw_at lw_m8 53 rfl) rfl
theorem q1837 : (Jvm.Cond.privateMethod ({ cls := "NobodysBardModel", name := "needs", desc := "(I)V" } : Jvm.MethodName)) ∈ lw_tbl := lw_at lw_m8 54 rfl
theorem q1838 : (Jvm.Cond.instanceMethod ({ cls := "NobodysBardModel", name := "needs", desc := "(I)V" } : Jvm.MethodName)) ∈ lw_all := lw_g (lw_at lw_m8 55 rfl) rfl
theorem q1839 : (Jvm.Cond.code ({ cls := "NobodysBardModel", name := "needs", desc := "(I)V" } : Jvm.MethodName) prog_28_method_26_code (2 : Nat) (Option.none : Option Jvm.ClassFile.FieldType)) ∈ lw_all := lw_g (lw_at lw_m8 56 rfl) rfl
theorem q1840 : (Jvm.Cond.methodLink "NobodysBardModel" (170 : Nat) ({ cls := "NobodysBardModel", name := "eats", desc := "(I)Z" } : Jvm.MethodName)) ∈ lw_all := lw_g (lw_at lw_m8 57 rfl) rfl
theorem q1841 : (Jvm.Cond.privateMethod ({ cls := "NobodysBardModel", name := "eats", desc := "(I)Z" } : Jvm.MethodName)) ∈ lw_tbl := lw_at lw_m8 58 rfl
theorem q1842 : (Jvm.Cond.instanceMethod ({ cls := "NobodysBardModel", name := "eats", desc := "(I)Z" } : Jvm.MethodName)) ∈ lw_all := lw_g (lw_at lw_m8 59 rfl) rfl
theorem q1843 : (Jvm.Cond.code ({ cls := "NobodysBardModel", name := "eats", desc := "(I)Z" } : Jvm.MethodName) prog_28_method_25_code (2 : Nat) (Option.some Jvm.ClassFile.FieldType.boolean)) ∈ lw_all := lw_g (lw_at lw_m8 60 rfl) rfl
theorem q1844 : (Jvm.Cond.methodLink "NobodysBardModel" (193 : Nat) ({ cls := "NobodysBardModel", name := "test", desc := "()V" } : Jvm.MethodName)) ∈ lw_all := lw_g (lw_at lw_m8 61 rfl) rfl
theorem q1845 : (Jvm.Cond.privateMethod ({ cls := "NobodysBardModel", name := "test", desc := "()V" } : Jvm.MethodName)) ∈ lw_tbl := lw_at lw_m8 62 rfl
theorem q1846 : (Jvm.Cond.instanceMethod ({ cls := "NobodysBardModel", name := "test", desc := "()V" } : Jvm.MethodName)) ∈ lw_all := lw_g (lw_at lw_m8 63 rfl) rfl
theorem q1847 : (Jvm.Cond.code ({ cls := "NobodysBardModel", name := "test", desc := "()V" } : Jvm.MethodName) prog_28_method_29_code (1 : Nat) (Option.none : Option Jvm.ClassFile.FieldType)) ∈ lw_all := lw_g (lw_at lw_m8 64 rfl) rfl
theorem q1848 : (Jvm.Cond.methodLink "NobodysBardModel" (180 : Nat) ({ cls := "NobodysBardModel", name := "parts", desc := "()V" } : Jvm.MethodName)) ∈ lw_all := lw_g (lw_at lw_m8 65 rfl) rfl
theorem q1849 : (Jvm.Cond.privateMethod ({ cls := "NobodysBardModel", name := "parts", desc := "()V" } : Jvm.MethodName)) ∈ lw_tbl := lw_at lw_m8 66 rfl
theorem q1850 : (Jvm.Cond.instanceMethod ({ cls := "NobodysBardModel", name := "parts", desc := "()V" } : Jvm.MethodName)) ∈ lw_all := lw_g (lw_at lw_m8 67 rfl) rfl
theorem q1851 : (Jvm.Cond.code ({ cls := "NobodysBardModel", name := "parts", desc := "()V" } : Jvm.MethodName) prog_28_method_30_code (1 : Nat) (Option.none : Option Jvm.ClassFile.FieldType)) ∈ lw_all := lw_g (lw_at lw_m8 68 rfl) rfl
theorem q1852 : (Jvm.Cond.methodLink "NobodysBardModel" (187 : Nat) ({ cls := "NobodysBardModel", name := "fact", desc := "()V" } : Jvm.MethodName)) ∈ lw_all := lw_g (lw_at lw_m8 69 rfl) rfl
theorem q1853 : (Jvm.Cond.privateMethod ({ cls := "NobodysBardModel", name := "fact", desc := "()V" } : Jvm.MethodName)) ∈ lw_tbl := lw_at lw_m8 70 rfl
theorem q1854 : (Jvm.Cond.instanceMethod ({ cls := "NobodysBardModel", name := "fact", desc := "()V" } : Jvm.MethodName)) ∈ lw_all := lw_g (lw_at lw_m8 71 rfl) rfl
theorem q1855 : (Jvm.Cond.code ({ cls := "NobodysBardModel", name := "fact", desc := "()V" } : Jvm.MethodName) prog_28_method_31_code (3 : Nat) (Option.none : Option Jvm.ClassFile.FieldType)) ∈ lw_all := lw_g (lw_at lw_m8 72 rfl) rfl
theorem q1856 : (Jvm.Cond.methodLink "NobodysBardModel" (183 : Nat) ({ cls := "NobodysBardModel", name := "emit", desc := "(II)V" } : Jvm.MethodName)) ∈ lw_all := lw_g (lw_at lw_m8 73 rfl) rfl
theorem q1857 : (Jvm.Cond.privateMethod ({ cls := "NobodysBardModel", name := "emit", desc := "(II)V" } : Jvm.MethodName)) ∈ lw_tbl := lw_at lw_m8 74 rfl
theorem q1858 : (Jvm.Cond.instanceMethod ({ cls := "NobodysBardModel", name := "emit", desc := "(II)V" } : Jvm.MethodName)) ∈ lw_all := lw_g (lw_at lw_m8 75 rfl) rfl
theorem q1859 : (Jvm.Cond.code ({ cls := "NobodysBardModel", name := "emit", desc := "(II)V" } : Jvm.MethodName) prog_28_method_28_code (3 : Nat) (Option.none : Option Jvm.ClassFile.FieldType)) ∈ lw_all := lw_g (lw_at lw_m8 76 rfl) rfl
theorem q1860 : (Jvm.Cond.methodLink "NobodysBardModel" (214 : Nat) ({ cls := "NobodysBardModel", name := "readWay", desc := "()V" } : Jvm.MethodName)) ∈ lw_all := lw_g (lw_at lw_m8 77 rfl) rfl
theorem q1861 : (Jvm.Cond.privateMethod ({ cls := "NobodysBardModel", name := "readWay", desc := "()V" } : Jvm.MethodName)) ∈ lw_tbl := lw_at lw_m8 78 rfl
theorem q1862 : (Jvm.Cond.instanceMethod ({ cls := "NobodysBardModel", name := "readWay", desc := "()V" } : Jvm.MethodName)) ∈ lw_all := lw_g (lw_at lw_m8 79 rfl) rfl
theorem q1863 : (Jvm.Cond.code ({ cls := "NobodysBardModel", name := "readWay", desc := "()V" } : Jvm.MethodName) prog_28_method_34_code (5 : Nat) (Option.none : Option Jvm.ClassFile.FieldType)) ∈ lw_all := lw_g (lw_at lw_m8 80 rfl) rfl
theorem q1864 : (Jvm.Cond.constantLong "NobodysBardModel" (207 : Nat) (8 : Int64)) ∈ lw_all := lw_g (lw_at lw_m8 81 rfl) rfl
theorem q1865 : (Jvm.Cond.constantLong "NobodysBardModel" (209 : Nat) (11 : Int64)) ∈ lw_all := lw_g (lw_at lw_m8 82 rfl) rfl
theorem q1867 : (Jvm.Cond.instanceMethod ({ cls := "NobodysBardModel", name := "fault", desc := "(I)I" } : Jvm.MethodName)) ∈ lw_all := lw_g (lw_at lw_m8 84 rfl) rfl
theorem q1868 : (Jvm.Cond.selects "NobodysBardModel" ({ cls := "NobodysBardModel", name := "fault", desc := "(I)I" } : Jvm.MethodName) ({ cls := "NobodysBardModel", name := "fault", desc := "(I)I" } : Jvm.MethodName)) ∈ lw_all := lw_g (lw_at lw_m8 85 rfl) rfl
theorem q1869 : (Jvm.Cond.code ({ cls := "NobodysBardModel", name := "fault", desc := "(I)I" } : Jvm.MethodName) prog_28_method_36_code (2 : Nat) (Option.some Jvm.ClassFile.FieldType.int)) ∈ lw_all := lw_g (lw_at lw_m8 86 rfl) rfl
theorem q1871 : (Jvm.Cond.instanceMethod ({ cls := "NobodysBardModel", name := "smoothed", desc := "(JI)J" } : Jvm.MethodName)) ∈ lw_all := lw_g (lw_at lw_m8 88 rfl) rfl
theorem q1872 : (Jvm.Cond.selects "NobodysBardModel" ({ cls := "NobodysBardModel", name := "smoothed", desc := "(JI)J" } : Jvm.MethodName) ({ cls := "NobodysBardModel", name := "smoothed", desc := "(JI)J" } : Jvm.MethodName)) ∈ lw_all := lw_g (lw_at lw_m8 89 rfl) rfl
theorem q1873 : (Jvm.Cond.code ({ cls := "NobodysBardModel", name := "smoothed", desc := "(JI)J" } : Jvm.MethodName) prog_28_method_42_code (4 : Nat) (Option.some Jvm.ClassFile.FieldType.long)) ∈ lw_all := lw_g (lw_at lw_m8 90 rfl) rfl
theorem q1874 : (Jvm.Cond.methodLink "NobodysBardModel" (236 : Nat) ({ cls := "NobodysBardModel", name := "smooth", desc := "(JI)J" } : Jvm.MethodName)) ∈ lw_all := lw_g (lw_at lw_m8 91 rfl) rfl
theorem q1875 : (Jvm.Cond.privateMethod ({ cls := "NobodysBardModel", name := "smooth", desc := "(JI)J" } : Jvm.MethodName)) ∈ lw_tbl := lw_at lw_m8 92 rfl
theorem q1876 : (Jvm.Cond.instanceMethod ({ cls := "NobodysBardModel", name := "smooth", desc := "(JI)J" } : Jvm.MethodName)) ∈ lw_all := lw_g (lw_at lw_m8 93 rfl) rfl
theorem q1877 : (Jvm.Cond.code ({ cls := "NobodysBardModel", name := "smooth", desc := "(JI)J" } : Jvm.MethodName) prog_28_method_41_code (8 : Nat) (Option.some Jvm.ClassFile.FieldType.long)) ∈ lw_all := lw_g (lw_at lw_m8 94 rfl) rfl
theorem q1878 : (Jvm.Cond.methodLink "NobodysBardModel" (233 : Nat) ({ cls := "NobodysBardModel", name := "does", desc := "(II)Z" } : Jvm.MethodName)) ∈ lw_all := lw_g (lw_at lw_m8 95 rfl) rfl
theorem q1879 : (Jvm.Cond.privateMethod ({ cls := "NobodysBardModel", name := "does", desc := "(II)Z" } : Jvm.MethodName)) ∈ lw_tbl := lw_at lw_m8 96 rfl
theorem q1880 : (Jvm.Cond.instanceMethod ({ cls := "NobodysBardModel", name := "does", desc := "(II)Z" } : Jvm.MethodName)) ∈ lw_all := lw_g (lw_at lw_m8 97 rfl) rfl
theorem q1881 : (Jvm.Cond.code ({ cls := "NobodysBardModel", name := "does", desc := "(II)Z" } : Jvm.MethodName) prog_28_method_40_code (9 : Nat) (Option.some Jvm.ClassFile.FieldType.boolean)) ∈ lw_all := lw_g (lw_at lw_m8 98 rfl) rfl
theorem q1882 : (Jvm.Cond.methodLink "NobodysBardModel" (226 : Nat) ({ cls := "NobodysBardModel", name := "holds", desc := "(II)Z" } : Jvm.MethodName)) ∈ lw_all := lw_g (lw_at lw_m8 99 rfl) rfl
theorem q1883 : (Jvm.Cond.privateMethod ({ cls := "NobodysBardModel", name := "holds", desc := "(II)Z" } : Jvm.MethodName)) ∈ lw_tbl := lw_at lw_m8 100 rfl
theorem q1884 : (Jvm.Cond.instanceMethod ({ cls := "NobodysBardModel", name := "holds", desc := "(II)Z" } : Jvm.MethodName)) ∈ lw_all := lw_g (lw_at lw_m8 101 rfl) rfl
theorem q1885 : (Jvm.Cond.code ({ cls := "NobodysBardModel", name := "holds", desc := "(II)Z" } : Jvm.MethodName) prog_28_method_38_code (7 : Nat) (Option.some Jvm.ClassFile.FieldType.boolean)) ∈ lw_all := lw_g (lw_at lw_m8 102 rfl) rfl
theorem q1886 : (Jvm.Cond.methodLink "NobodysBardModel" (223 : Nat) ({ cls := "NobodysBardModel", name := "hasWord", desc := "(I)Z" } : Jvm.MethodName)) ∈ lw_all := lw_g (lw_at lw_m8 103 rfl) rfl
theorem q1887 : (Jvm.Cond.privateMethod ({ cls := "NobodysBardModel", name := "hasWord", desc := "(I)Z" } : Jvm.MethodName)) ∈ lw_tbl := lw_at lw_m8 104 rfl
theorem q1888 : (Jvm.Cond.instanceMethod ({ cls := "NobodysBardModel", name := "hasWord", desc := "(I)Z" } : Jvm.MethodName)) ∈ lw_all := lw_g (lw_at lw_m8 105 rfl) rfl
theorem q1889 : (Jvm.Cond.code ({ cls := "NobodysBardModel", name := "hasWord", desc := "(I)Z" } : Jvm.MethodName) prog_28_method_37_code (4 : Nat) (Option.some Jvm.ClassFile.FieldType.boolean)) ∈ lw_all := lw_g (lw_at lw_m8 106 rfl) rfl
theorem q1890 : (Jvm.Cond.methodLink "NobodysBardModel" (230 : Nat) ({ cls := "NobodysBardModel", name := "stands", desc := "(I)I" } : Jvm.MethodName)) ∈ lw_all := lw_g (lw_at lw_m8 107 rfl) rfl
theorem q1891 : (Jvm.Cond.privateMethod ({ cls := "NobodysBardModel", name := "stands", desc := "(I)I" } : Jvm.MethodName)) ∈ lw_tbl := lw_at lw_m8 108 rfl
theorem q1892 : (Jvm.Cond.instanceMethod ({ cls := "NobodysBardModel", name := "stands", desc := "(I)I" } : Jvm.MethodName)) ∈ lw_all := lw_g (lw_at lw_m8 109 rfl) rfl
theorem q1893 : (Jvm.Cond.code ({ cls := "NobodysBardModel", name := "stands", desc := "(I)I" } : Jvm.MethodName) prog_28_method_39_code (5 : Nat) (Option.some Jvm.ClassFile.FieldType.int)) ∈ lw_all := lw_g (lw_at lw_m8 110 rfl) rfl
theorem q1895 : (Jvm.Cond.instanceMethod ({ cls := "NobodysBardModel", name := "told", desc := "(IIII)I" } : Jvm.MethodName)) ∈ lw_all := lw_g (lw_at lw_m8 112 rfl) rfl
theorem q1896 : (Jvm.Cond.selects "NobodysBardModel" ({ cls := "NobodysBardModel", name := "told", desc := "(IIII)I" } : Jvm.MethodName) ({ cls := "NobodysBardModel", name := "told", desc := "(IIII)I" } : Jvm.MethodName)) ∈ lw_all := lw_g (lw_at lw_m8 113 rfl) rfl
theorem q1897 : (Jvm.Cond.code ({ cls := "NobodysBardModel", name := "told", desc := "(IIII)I" } : Jvm.MethodName) prog_28_method_45_code (9 : Nat) (Option.some Jvm.ClassFile.FieldType.int)) ∈ lw_all := lw_g (lw_at lw_m8 114 rfl) rfl
theorem q1898 : (Jvm.Cond.methodLink "NobodysBardModel" (244 : Nat) ({ cls := "NobodysBardModel", name := "draw", desc := "()I" } : Jvm.MethodName)) ∈ lw_all := lw_g (lw_at lw_m8 115 rfl) rfl
theorem q1899 : (Jvm.Cond.privateMethod ({ cls := "NobodysBardModel", name := "draw", desc := "()I" } : Jvm.MethodName)) ∈ lw_tbl := lw_at lw_m8 116 rfl
theorem q1900 : (Jvm.Cond.instanceMethod ({ cls := "NobodysBardModel", name := "draw", desc := "()I" } : Jvm.MethodName)) ∈ lw_all := lw_g (lw_at lw_m8 117 rfl) rfl
theorem q1901 : (Jvm.Cond.code ({ cls := "NobodysBardModel", name := "draw", desc := "()I" } : Jvm.MethodName) prog_28_method_43_code (1 : Nat) (Option.some Jvm.ClassFile.FieldType.int)) ∈ lw_all := lw_g (lw_at lw_m8 118 rfl) rfl
theorem q1902 : (Jvm.Cond.constant "NobodysBardModel" (240 : Nat) (1103515245 : Int32)) ∈ lw_all := lw_g (lw_at lw_m8 119 rfl) rfl
theorem q1903 : (Jvm.Cond.methodLink "NobodysBardModel" (247 : Nat) ({ cls := "NobodysBardModel", name := "said", desc := "(J)J" } : Jvm.MethodName)) ∈ lw_all := lw_g (lw_at lw_m8 120 rfl) rfl
theorem q1904 : (Jvm.Cond.privateMethod ({ cls := "NobodysBardModel", name := "said", desc := "(J)J" } : Jvm.MethodName)) ∈ lw_tbl := lw_at lw_m8 121 rfl
theorem q1905 : (Jvm.Cond.instanceMethod ({ cls := "NobodysBardModel", name := "said", desc := "(J)J" } : Jvm.MethodName)) ∈ lw_all := lw_g (lw_at lw_m8 122 rfl) rfl
theorem q1906 : (Jvm.Cond.code ({ cls := "NobodysBardModel", name := "said", desc := "(J)J" } : Jvm.MethodName) prog_28_method_44_code (10 : Nat) (Option.some Jvm.ClassFile.FieldType.long)) ∈ lw_all := lw_g (lw_at lw_m8 123 rfl) rfl
theorem q1908 : (Jvm.Cond.instanceMethod ({ cls := "NobodysBardModel", name := "whose", desc := "(II)I" } : Jvm.MethodName)) ∈ lw_all := lw_g (lw_at lw_m8 125 rfl) rfl
theorem q1909 : (Jvm.Cond.selects "NobodysBardModel" ({ cls := "NobodysBardModel", name := "whose", desc := "(II)I" } : Jvm.MethodName) ({ cls := "NobodysBardModel", name := "whose", desc := "(II)I" } : Jvm.MethodName)) ∈ lw_all := lw_g (lw_at lw_m8 126 rfl) rfl
theorem q1910 : (Jvm.Cond.code ({ cls := "NobodysBardModel", name := "whose", desc := "(II)I" } : Jvm.MethodName) prog_28_method_51_code (4 : Nat) (Option.some Jvm.ClassFile.FieldType.int)) ∈ lw_all := lw_g (lw_at lw_m8 127 rfl) rfl
theorem q1911 : (Jvm.Cond.methodLink "NobodysBardModel" (269 : Nat) ({ cls := "NobodysBardModel", name := "smooths", desc := "()V" } : Jvm.MethodName)) ∈ lw_all := lw_g (lw_at lw_m8 128 rfl) rfl
theorem q1912 : (Jvm.Cond.privateMethod ({ cls := "NobodysBardModel", name := "smooths", desc := "()V" } : Jvm.MethodName)) ∈ lw_tbl := lw_at lw_m8 129 rfl
theorem q1913 : (Jvm.Cond.instanceMethod ({ cls := "NobodysBardModel", name := "smooths", desc := "()V" } : Jvm.MethodName)) ∈ lw_all := lw_g (lw_at lw_m8 130 rfl) rfl
theorem q1914 : (Jvm.Cond.code ({ cls := "NobodysBardModel", name := "smooths", desc := "()V" } : Jvm.MethodName) prog_28_method_47_code (3 : Nat) (Option.none : Option Jvm.ClassFile.FieldType)) ∈ lw_all := lw_g (lw_at lw_m8 131 rfl) rfl
theorem q1915 : (Jvm.Cond.methodLink "NobodysBardModel" (250 : Nat) ({ cls := "NobodysBardModel", name := "isEarly", desc := "(I)Z" } : Jvm.MethodName)) ∈ lw_all := lw_g (lw_at lw_m8 132 rfl) rfl
theorem q1916 : (Jvm.Cond.privateMethod ({ cls := "NobodysBardModel", name := "isEarly", desc := "(I)Z" } : Jvm.MethodName)) ∈ lw_tbl := lw_at lw_m8 133 rfl
theorem q1917 : (Jvm.Cond.instanceMethod ({ cls := "NobodysBardModel", name := "isEarly", desc := "(I)Z" } : Jvm.MethodName)) ∈ lw_all := lw_g (lw_at lw_m8 134 rfl) rfl
theorem q1918 : (Jvm.Cond.code ({ cls := "NobodysBardModel", name := "isEarly", desc := "(I)Z" } : Jvm.MethodName) prog_28_method_46_code (2 : Nat) (Option.some Jvm.ClassFile.FieldType.boolean)) ∈ lw_all := lw_g (lw_at lw_m8 135 rfl) rfl
theorem q1919 : (Jvm.Cond.methodLink "NobodysBardModel" (272 : Nat) ({ cls := "NobodysBardModel", name := "whoseIs", desc := "(I)I" } : Jvm.MethodName)) ∈ lw_all := lw_g (lw_at lw_m8 136 rfl) rfl
theorem q1920 : (Jvm.Cond.privateMethod ({ cls := "NobodysBardModel", name := "whoseIs", desc := "(I)I" } : Jvm.MethodName)) ∈ lw_tbl := lw_at lw_m8 137 rfl
theorem q1921 : (Jvm.Cond.instanceMethod ({ cls := "NobodysBardModel", name := "whoseIs", desc := "(I)I" } : Jvm.MethodName)) ∈ lw_all := lw_g (lw_at lw_m8 138 rfl) rfl
theorem q1922 : (Jvm.Cond.code ({ cls := "NobodysBardModel", name := "whoseIs", desc := "(I)I" } : Jvm.MethodName) prog_28_method_50_code (4 : Nat) (Option.some Jvm.ClassFile.FieldType.int)) ∈ lw_all := lw_g (lw_at lw_m8 139 rfl) rfl
theorem q1923 : (Jvm.Cond.methodLink "NobodysBardModel" (263 : Nat) ({ cls := "NobodysBardModel", name := "best", desc := "(II)V" } : Jvm.MethodName)) ∈ lw_all := lw_g (lw_at lw_m8 140 rfl) rfl
theorem q1924 : (Jvm.Cond.privateMethod ({ cls := "NobodysBardModel", name := "best", desc := "(II)V" } : Jvm.MethodName)) ∈ lw_tbl := lw_at lw_m8 141 rfl
theorem q1925 : (Jvm.Cond.instanceMethod ({ cls := "NobodysBardModel", name := "best", desc := "(II)V" } : Jvm.MethodName)) ∈ lw_all := lw_g (lw_at lw_m8 142 rfl) rfl
theorem q1926 : (Jvm.Cond.code ({ cls := "NobodysBardModel", name := "best", desc := "(II)V" } : Jvm.MethodName) prog_28_method_49_code (8 : Nat) (Option.none : Option Jvm.ClassFile.FieldType)) ∈ lw_all := lw_g (lw_at lw_m8 143 rfl) rfl
theorem q1927 : (Jvm.Cond.methodLink "NobodysBardModel" (259 : Nat) ({ cls := "NobodysBardModel", name := "looks", desc := "(JJI)V" } : Jvm.MethodName)) ∈ lw_all := lw_g (lw_at lw_m8 144 rfl) rfl
theorem q1928 : (Jvm.Cond.privateMethod ({ cls := "NobodysBardModel", name := "looks", desc := "(JJI)V" } : Jvm.MethodName)) ∈ lw_tbl := lw_at lw_m8 145 rfl
theorem q1929 : (Jvm.Cond.instanceMethod ({ cls := "NobodysBardModel", name := "looks", desc := "(JJI)V" } : Jvm.MethodName)) ∈ lw_all := lw_g (lw_at lw_m8 146 rfl) rfl
theorem q1930 : (Jvm.Cond.code ({ cls := "NobodysBardModel", name := "looks", desc := "(JJI)V" } : Jvm.MethodName) prog_28_method_48_code (7 : Nat) (Option.none : Option Jvm.ClassFile.FieldType)) ∈ lw_all := lw_g (lw_at lw_m8 147 rfl) rfl
theorem q1932 : (Jvm.Cond.instanceMethod ({ cls := "NobodysBardModel", name := "late", desc := "(II)I" } : Jvm.MethodName)) ∈ lw_all := lw_g (lw_at lw_m8 149 rfl) rfl
theorem q1933 : (Jvm.Cond.selects "NobodysBardModel" ({ cls := "NobodysBardModel", name := "late", desc := "(II)I" } : Jvm.MethodName) ({ cls := "NobodysBardModel", name := "late", desc := "(II)I" } : Jvm.MethodName)) ∈ lw_all := lw_g (lw_at lw_m8 150 rfl) rfl
theorem q1934 : (Jvm.Cond.code ({ cls := "NobodysBardModel", name := "late", desc := "(II)I" } : Jvm.MethodName) prog_28_method_54_code (5 : Nat) (Option.some Jvm.ClassFile.FieldType.int)) ∈ lw_all := lw_g (lw_at lw_m8 151 rfl) rfl
theorem q1935 : (Jvm.Cond.methodLink "NobodysBardModel" (275 : Nat) ({ cls := "NobodysBardModel", name := "mostOfSongs", desc := "(JZ)I" } : Jvm.MethodName)) ∈ lw_all := lw_g (lw_at lw_m8 152 rfl) rfl
theorem q1936 : (Jvm.Cond.privateMethod ({ cls := "NobodysBardModel", name := "mostOfSongs", desc := "(JZ)I" } : Jvm.MethodName)) ∈ lw_tbl := lw_at lw_m8 153 rfl
theorem q1937 : (Jvm.Cond.instanceMethod ({ cls := "NobodysBardModel", name := "mostOfSongs", desc := "(JZ)I" } : Jvm.MethodName)) ∈ lw_all := lw_g (lw_at lw_m8 154 rfl) rfl
theorem q1938 : (Jvm.Cond.code ({ cls := "NobodysBardModel", name := "mostOfSongs", desc := "(JZ)I" } : Jvm.MethodName) prog_28_method_52_code (8 : Nat) (Option.some Jvm.ClassFile.FieldType.int)) ∈ lw_all := lw_g (lw_at lw_m8 155 rfl) rfl
theorem q1939 : (Jvm.Cond.methodLink "NobodysBardModel" (279 : Nat) ({ cls := "NobodysBardModel", name := "mostOfPrint", desc := "(J)I" } : Jvm.MethodName)) ∈ lw_all := lw_g (lw_at lw_m8 156 rfl) rfl
theorem q1940 : (Jvm.Cond.privateMethod ({ cls := "NobodysBardModel", name := "mostOfPrint", desc := "(J)I" } : Jvm.MethodName)) ∈ lw_tbl := lw_at lw_m8 157 rfl
theorem q1941 : (Jvm.Cond.instanceMethod ({ cls := "NobodysBardModel", name := "mostOfPrint", desc := "(J)I" } : Jvm.MethodName)) ∈ lw_all := lw_g (lw_at lw_m8 158 rfl) rfl
theorem q1942 : (Jvm.Cond.code ({ cls := "NobodysBardModel", name := "mostOfPrint", desc := "(J)I" } : Jvm.MethodName) prog_28_method_53_code (6 : Nat) (Option.some Jvm.ClassFile.FieldType.int)) ∈ lw_all := lw_g (lw_at lw_m8 159 rfl) rfl
theorem q1944 : (Jvm.Cond.instanceMethod ({ cls := "NobodysBardModel", name := "share", desc := "(II)I" } : Jvm.MethodName)) ∈ lw_all := lw_g (lw_at lw_m8 161 rfl) rfl
theorem q1945 : (Jvm.Cond.selects "NobodysBardModel" ({ cls := "NobodysBardModel", name := "share", desc := "(II)I" } : Jvm.MethodName) ({ cls := "NobodysBardModel", name := "share", desc := "(II)I" } : Jvm.MethodName)) ∈ lw_all := lw_g (lw_at lw_m8 162 rfl) rfl
theorem q1946 : (Jvm.Cond.code ({ cls := "NobodysBardModel", name := "share", desc := "(II)I" } : Jvm.MethodName) prog_28_method_56_code (3 : Nat) (Option.some Jvm.ClassFile.FieldType.int)) ∈ lw_all := lw_g (lw_at lw_m8 163 rfl) rfl
theorem q1947 : (Jvm.Cond.methodLink "NobodysBardModel" (282 : Nat) ({ cls := "NobodysBardModel", name := "counts", desc := "()V" } : Jvm.MethodName)) ∈ lw_all := lw_g (lw_at lw_m8 164 rfl) rfl
theorem q1948 : (Jvm.Cond.privateMethod ({ cls := "NobodysBardModel", name := "counts", desc := "()V" } : Jvm.MethodName)) ∈ lw_tbl := lw_at lw_m8 165 rfl
theorem q1949 : (Jvm.Cond.instanceMethod ({ cls := "NobodysBardModel", name := "counts", desc := "()V" } : Jvm.MethodName)) ∈ lw_all := lw_g (lw_at lw_m8 166 rfl) rfl
theorem q1950 : (Jvm.Cond.code ({ cls := "NobodysBardModel", name := "counts", desc := "()V" } : Jvm.MethodName) prog_28_method_55_code (2 : Nat) (Option.none : Option Jvm.ClassFile.FieldType)) ∈ lw_all := lw_g (lw_at lw_m8 167 rfl) rfl
theorem q1952 : (Jvm.Cond.instanceMethod ({ cls := "NobodysBardModel", name := "span", desc := "(I)I" } : Jvm.MethodName)) ∈ lw_all := lw_g (lw_at lw_m8 169 rfl) rfl
theorem q1953 : (Jvm.Cond.selects "NobodysBardModel" ({ cls := "NobodysBardModel", name := "span", desc := "(I)I" } : Jvm.MethodName) ({ cls := "NobodysBardModel", name := "span", desc := "(I)I" } : Jvm.MethodName)) ∈ lw_all := lw_g (lw_at lw_m8 170 rfl) rfl
theorem q1954 : (Jvm.Cond.code ({ cls := "NobodysBardModel", name := "span", desc := "(I)I" } : Jvm.MethodName) prog_28_method_57_code (2 : Nat) (Option.some Jvm.ClassFile.FieldType.int)) ∈ lw_all := lw_g (lw_at lw_m8 171 rfl) rfl
theorem q1956 : (Jvm.Cond.instanceMethod ({ cls := "NobodysBardModel", name := "chance", desc := "(II)I" } : Jvm.MethodName)) ∈ lw_all := lw_g (lw_at lw_m8 173 rfl) rfl
theorem q1957 : (Jvm.Cond.selects "NobodysBardModel" ({ cls := "NobodysBardModel", name := "chance", desc := "(II)I" } : Jvm.MethodName) ({ cls := "NobodysBardModel", name := "chance", desc := "(II)I" } : Jvm.MethodName)) ∈ lw_all := lw_g (lw_at lw_m8 174 rfl) rfl
theorem q1958 : (Jvm.Cond.code ({ cls := "NobodysBardModel", name := "chance", desc := "(II)I" } : Jvm.MethodName) prog_28_method_61_code (3 : Nat) (Option.some Jvm.ClassFile.FieldType.int)) ∈ lw_all := lw_g (lw_at lw_m8 175 rfl) rfl
theorem q1959 : (Jvm.Cond.methodLink "NobodysBardModel" (294 : Nat) ({ cls := "NobodysBardModel", name := "meets", desc := "(IZ)V" } : Jvm.MethodName)) ∈ lw_all := lw_g (lw_at lw_m8 176 rfl) rfl
theorem q1960 : (Jvm.Cond.privateMethod ({ cls := "NobodysBardModel", name := "meets", desc := "(IZ)V" } : Jvm.MethodName)) ∈ lw_tbl := lw_at lw_m8 177 rfl
theorem q1961 : (Jvm.Cond.instanceMethod ({ cls := "NobodysBardModel", name := "meets", desc := "(IZ)V" } : Jvm.MethodName)) ∈ lw_all := lw_g (lw_at lw_m8 178 rfl) rfl
theorem q1962 : (Jvm.Cond.code ({ cls := "NobodysBardModel", name := "meets", desc := "(IZ)V" } : Jvm.MethodName) prog_28_method_60_code (8 : Nat) (Option.none : Option Jvm.ClassFile.FieldType)) ∈ lw_all := lw_g (lw_at lw_m8 179 rfl) rfl
theorem q1963 : (Jvm.Cond.methodLink "NobodysBardModel" (298 : Nat) ({ cls := "NobodysBardModel", name := "part", desc := "(JJI)J" } : Jvm.MethodName)) ∈ lw_all := lw_g (lw_at lw_m8 180 rfl) rfl
theorem q1964 : (Jvm.Cond.static ({ cls := "NobodysBardModel", name := "part", desc := "(JJI)J" } : Jvm.MethodName)) ∈ lw_all := lw_g (lw_at lw_m8 181 rfl) rfl
theorem q1965 : (Jvm.Cond.code ({ cls := "NobodysBardModel", name := "part", desc := "(JJI)J" } : Jvm.MethodName) prog_28_method_59_code (7 : Nat) (Option.some Jvm.ClassFile.FieldType.long)) ∈ lw_all := lw_g (lw_at lw_m8 182 rfl) rfl
theorem q1966 : (Jvm.Cond.methodLink "NobodysBardModel" (285 : Nat) ({ cls := "NobodysBardModel", name := "common", desc := "(JJ)J" } : Jvm.MethodName)) ∈ lw_all := lw_g (lw_at lw_m8 183 rfl) rfl
theorem q1967 : (Jvm.Cond.static ({ cls := "NobodysBardModel", name := "common", desc := "(JJ)J" } : Jvm.MethodName)) ∈ lw_all := lw_g (lw_at lw_m8 184 rfl) rfl
theorem q1968 : (Jvm.Cond.code ({ cls := "NobodysBardModel", name := "common", desc := "(JJ)J" } : Jvm.MethodName) prog_28_method_58_code (10 : Nat) (Option.some Jvm.ClassFile.FieldType.long)) ∈ lw_all := lw_g (lw_at lw_m8 185 rfl) rfl
theorem q1970 : (Jvm.Cond.instanceMethod ({ cls := "NobodysBardModel", name := "odds", desc := "(II)J" } : Jvm.MethodName)) ∈ lw_all := lw_g (lw_at lw_m8 187 rfl) rfl
theorem q1971 : (Jvm.Cond.selects "NobodysBardModel" ({ cls := "NobodysBardModel", name := "odds", desc := "(II)J" } : Jvm.MethodName) ({ cls := "NobodysBardModel", name := "odds", desc := "(II)J" } : Jvm.MethodName)) ∈ lw_all := lw_g (lw_at lw_m8 188 rfl) rfl
theorem q1972 : (Jvm.Cond.code ({ cls := "NobodysBardModel", name := "odds", desc := "(II)J" } : Jvm.MethodName) prog_28_method_62_code (7 : Nat) (Option.some Jvm.ClassFile.FieldType.long)) ∈ lw_all := lw_g (lw_at lw_m8 189 rfl) rfl
theorem q1974 : (Jvm.Cond.instanceMethod ({ cls := "NobodysBardModel", name := "matches", desc := "(II)I" } : Jvm.MethodName)) ∈ lw_all := lw_g (lw_at lw_m8 191 rfl) rfl
theorem q1975 : (Jvm.Cond.selects "NobodysBardModel" ({ cls := "NobodysBardModel", name := "matches", desc := "(II)I" } : Jvm.MethodName) ({ cls := "NobodysBardModel", name := "matches", desc := "(II)I" } : Jvm.MethodName)) ∈ lw_all := lw_g (lw_at lw_m8 192 rfl) rfl
theorem q1976 : (Jvm.Cond.code ({ cls := "NobodysBardModel", name := "matches", desc := "(II)I" } : Jvm.MethodName) prog_28_method_64_code (3 : Nat) (Option.some Jvm.ClassFile.FieldType.int)) ∈ lw_all := lw_g (lw_at lw_m8 193 rfl) rfl
theorem q1977 : (Jvm.Cond.methodLink "NobodysBardModel" (302 : Nat) ({ cls := "NobodysBardModel", name := "matchesOf", desc := "(II)I" } : Jvm.MethodName)) ∈ lw_all := lw_g (lw_at lw_m8 194 rfl) rfl
theorem q1978 : (Jvm.Cond.privateMethod ({ cls := "NobodysBardModel", name := "matchesOf", desc := "(II)I" } : Jvm.MethodName)) ∈ lw_tbl := lw_at lw_m8 195 rfl
theorem q1979 : (Jvm.Cond.instanceMethod ({ cls := "NobodysBardModel", name := "matchesOf", desc := "(II)I" } : Jvm.MethodName)) ∈ lw_all := lw_g (lw_at lw_m8 196 rfl) rfl
theorem q1980 : (Jvm.Cond.code ({ cls := "NobodysBardModel", name := "matchesOf", desc := "(II)I" } : Jvm.MethodName) prog_28_method_63_code (7 : Nat) (Option.some Jvm.ClassFile.FieldType.int)) ∈ lw_all := lw_g (lw_at lw_m8 197 rfl) rfl
theorem q1982 : (Jvm.Cond.instanceMethod ({ cls := "NobodysBardModel", name := "most", desc := "(II)I" } : Jvm.MethodName)) ∈ lw_all := lw_g (lw_at lw_m8 199 rfl) rfl
theorem q1983 : (Jvm.Cond.selects "NobodysBardModel" ({ cls := "NobodysBardModel", name := "most", desc := "(II)I" } : Jvm.MethodName) ({ cls := "NobodysBardModel", name := "most", desc := "(II)I" } : Jvm.MethodName)) ∈ lw_all := lw_g (lw_at lw_m8 200 rfl) rfl
theorem q1984 : (Jvm.Cond.code ({ cls := "NobodysBardModel", name := "most", desc := "(II)I" } : Jvm.MethodName) prog_28_method_65_code (8 : Nat) (Option.some Jvm.ClassFile.FieldType.int)) ∈ lw_all := lw_g (lw_at lw_m8 201 rfl) rfl
theorem q1985 : (Jvm.Cond.constantLong "NobodysBardModel" (306 : Nat) (2 : Int64)) ∈ lw_all := lw_g (lw_at lw_m8 202 rfl) rfl
theorem q1987 : (Jvm.Cond.instanceMethod ({ cls := "NobodysBardModel", name := "adds", desc := "(II)I" } : Jvm.MethodName)) ∈ lw_all := lw_g (lw_at lw_m8 204 rfl) rfl
theorem q1988 : (Jvm.Cond.selects "NobodysBardModel" ({ cls := "NobodysBardModel", name := "adds", desc := "(II)I" } : Jvm.MethodName) ({ cls := "NobodysBardModel", name := "adds", desc := "(II)I" } : Jvm.MethodName)) ∈ lw_all := lw_g (lw_at lw_m8 205 rfl) rfl
theorem q1989 : (Jvm.Cond.code ({ cls := "NobodysBardModel", name := "adds", desc := "(II)I" } : Jvm.MethodName) prog_28_method_67_code (3 : Nat) (Option.some Jvm.ClassFile.FieldType.int)) ∈ lw_all := lw_g (lw_at lw_m8 206 rfl) rfl
theorem q1990 : (Jvm.Cond.methodLink "NobodysBardModel" (308 : Nat) ({ cls := "NobodysBardModel", name := "addsBy", desc := "(III)I" } : Jvm.MethodName)) ∈ lw_all := lw_g (lw_at lw_m8 207 rfl) rfl
theorem q1991 : (Jvm.Cond.privateMethod ({ cls := "NobodysBardModel", name := "addsBy", desc := "(III)I" } : Jvm.MethodName)) ∈ lw_tbl := lw_at lw_m8 208 rfl
theorem q1992 : (Jvm.Cond.instanceMethod ({ cls := "NobodysBardModel", name := "addsBy", desc := "(III)I" } : Jvm.MethodName)) ∈ lw_all := lw_g (lw_at lw_m8 209 rfl) rfl
theorem q1993 : (Jvm.Cond.code ({ cls := "NobodysBardModel", name := "addsBy", desc := "(III)I" } : Jvm.MethodName) prog_28_method_66_code (10 : Nat) (Option.some Jvm.ClassFile.FieldType.int)) ∈ lw_all := lw_g (lw_at lw_m8 210 rfl) rfl
theorem q1995 : (Jvm.Cond.instanceMethod ({ cls := "NobodysBardModel", name := "added", desc := "(III)I" } : Jvm.MethodName)) ∈ lw_all := lw_g (lw_at lw_m8 212 rfl) rfl
theorem q1996 : (Jvm.Cond.selects "NobodysBardModel" ({ cls := "NobodysBardModel", name := "added", desc := "(III)I" } : Jvm.MethodName) ({ cls := "NobodysBardModel", name := "added", desc := "(III)I" } : Jvm.MethodName)) ∈ lw_all := lw_g (lw_at lw_m8 213 rfl) rfl
theorem q1997 : (Jvm.Cond.code ({ cls := "NobodysBardModel", name := "added", desc := "(III)I" } : Jvm.MethodName) prog_28_method_68_code (4 : Nat) (Option.some Jvm.ClassFile.FieldType.int)) ∈ lw_all := lw_g (lw_at lw_m8 214 rfl) rfl
theorem q1999 : (Jvm.Cond.instanceMethod ({ cls := "NobodysBardModel", name := "year", desc := "(II)I" } : Jvm.MethodName)) ∈ lw_all := lw_g (lw_at lw_m8 216 rfl) rfl
theorem q2000 : (Jvm.Cond.selects "NobodysBardModel" ({ cls := "NobodysBardModel", name := "year", desc := "(II)I" } : Jvm.MethodName) ({ cls := "NobodysBardModel", name := "year", desc := "(II)I" } : Jvm.MethodName)) ∈ lw_all := lw_g (lw_at lw_m8 217 rfl) rfl
theorem q2001 : (Jvm.Cond.code ({ cls := "NobodysBardModel", name := "year", desc := "(II)I" } : Jvm.MethodName) prog_28_method_69_code (4 : Nat) (Option.some Jvm.ClassFile.FieldType.int)) ∈ lw_all := lw_g (lw_at lw_m8 218 rfl) rfl
theorem q2002 : (Jvm.Cond.constantLong "NobodysBardModel" (311 : Nat) (255 : Int64)) ∈ lw_all := lw_g (lw_at lw_m8 219 rfl) rfl
theorem q2004 : (Jvm.Cond.instanceMethod ({ cls := "NobodysBardModel", name := "version", desc := "(JJII)I" } : Jvm.MethodName)) ∈ lw_all := lw_g (lw_at lw_m8 221 rfl) rfl
theorem q2005 : (Jvm.Cond.selects "NobodysBardModel" ({ cls := "NobodysBardModel", name := "version", desc := "(JJII)I" } : Jvm.MethodName) ({ cls := "NobodysBardModel", name := "version", desc := "(JJII)I" } : Jvm.MethodName)) ∈ lw_all := lw_g (lw_at lw_m8 222 rfl) rfl
theorem q2006 : (Jvm.Cond.code ({ cls := "NobodysBardModel", name := "version", desc := "(JJII)I" } : Jvm.MethodName) prog_28_method_70_code (8 : Nat) (Option.some Jvm.ClassFile.FieldType.int)) ∈ lw_all := lw_g (lw_at lw_m8 223 rfl) rfl
theorem q2008 : (Jvm.Cond.instanceMethod ({ cls := "NobodysBardModel", name := "which", desc := "(I)I" } : Jvm.MethodName)) ∈ lw_all := lw_g (lw_at lw_m8 225 rfl) rfl
theorem q2009 : (Jvm.Cond.selects "NobodysBardModel" ({ cls := "NobodysBardModel", name := "which", desc := "(I)I" } : Jvm.MethodName) ({ cls := "NobodysBardModel", name := "which", desc := "(I)I" } : Jvm.MethodName)) ∈ lw_all := lw_g (lw_at lw_m8 226 rfl) rfl
theorem q2010 : (Jvm.Cond.code ({ cls := "NobodysBardModel", name := "which", desc := "(I)I" } : Jvm.MethodName) prog_28_method_71_code (7 : Nat) (Option.some Jvm.ClassFile.FieldType.int)) ∈ lw_all := lw_g (lw_at lw_m8 227 rfl) rfl
theorem q2012 : (Jvm.Cond.instanceMethod ({ cls := "NobodysBardModel", name := "answer", desc := "(IIIIIJ)I" } : Jvm.MethodName)) ∈ lw_all := lw_g (lw_at lw_m8 229 rfl) rfl
theorem q2013 : (Jvm.Cond.selects "NobodysBardModel" ({ cls := "NobodysBardModel", name := "answer", desc := "(IIIIIJ)I" } : Jvm.MethodName) ({ cls := "NobodysBardModel", name := "answer", desc := "(IIIIIJ)I" } : Jvm.MethodName)) ∈ lw_all := lw_g (lw_at lw_m8 230 rfl) rfl
theorem q2014 : (Jvm.Cond.code ({ cls := "NobodysBardModel", name := "answer", desc := "(IIIIIJ)I" } : Jvm.MethodName) prog_28_method_74_code (8 : Nat) (Option.some Jvm.ClassFile.FieldType.int)) ∈ lw_all := lw_g (lw_at lw_m8 231 rfl) rfl
theorem q2015 : (Jvm.Cond.methodLink "NobodysBardModel" (313 : Nat) ({ cls := "NobodysBardModel", name := "isAnswer", desc := "(JJJJJ)Z" } : Jvm.MethodName)) ∈ lw_all := lw_g (lw_at lw_m8 232 rfl) rfl
theorem q2016 : (Jvm.Cond.static ({ cls := "NobodysBardModel", name := "isAnswer", desc := "(JJJJJ)Z" } : Jvm.MethodName)) ∈ lw_all := lw_g (lw_at lw_m8 233 rfl) rfl
theorem q2017 : (Jvm.Cond.code ({ cls := "NobodysBardModel", name := "isAnswer", desc := "(JJJJJ)Z" } : Jvm.MethodName) prog_28_method_72_code (10 : Nat) (Option.some Jvm.ClassFile.FieldType.boolean)) ∈ lw_all := lw_g (lw_at lw_m8 234 rfl) rfl
theorem q2018 : (Jvm.Cond.methodLink "NobodysBardModel" (317 : Nat) ({ cls := "NobodysBardModel", name := "answers", desc := "(IIIIIJ)V" } : Jvm.MethodName)) ∈ lw_all := lw_g (lw_at lw_m8 235 rfl) rfl
theorem q2019 : (Jvm.Cond.privateMethod ({ cls := "NobodysBardModel", name := "answers", desc := "(IIIIIJ)V" } : Jvm.MethodName)) ∈ lw_tbl := lw_at lw_m8 236 rfl
theorem q2020 : (Jvm.Cond.instanceMethod ({ cls := "NobodysBardModel", name := "answers", desc := "(IIIIIJ)V" } : Jvm.MethodName)) ∈ lw_all := lw_g (lw_at lw_m8 237 rfl) rfl
theorem q2021 : (Jvm.Cond.code ({ cls := "NobodysBardModel", name := "answers", desc := "(IIIIIJ)V" } : Jvm.MethodName) prog_28_method_73_code (9 : Nat) (Option.none : Option Jvm.ClassFile.FieldType)) ∈ lw_all := lw_g (lw_at lw_m8 238 rfl) rfl
theorem q2023 : (Jvm.Cond.instanceMethod ({ cls := "NobodysBardModel", name := "back", desc := "(I)I" } : Jvm.MethodName)) ∈ lw_all := lw_g (lw_at lw_m9 0 rfl) rfl
theorem q2024 : (Jvm.Cond.selects "NobodysBardModel" ({ cls := "NobodysBardModel", name := "back", desc := "(I)I" } : Jvm.MethodName) ({ cls := "NobodysBardModel", name := "back", desc := "(I)I" } : Jvm.MethodName)) ∈ lw_all := lw_g (lw_at lw_m9 1 rfl) rfl
theorem q2025 : (Jvm.Cond.code ({ cls := "NobodysBardModel", name := "back", desc := "(I)I" } : Jvm.MethodName) prog_28_method_78_code (2 : Nat) (Option.some Jvm.ClassFile.FieldType.int)) ∈ lw_all := lw_g (lw_at lw_m9 2 rfl) rfl
theorem q2026 : (Jvm.Cond.methodLink "NobodysBardModel" (324 : Nat) ({ cls := "NobodysBardModel", name := "isThere", desc := "(I)Z" } : Jvm.MethodName)) ∈ lw_all := lw_g (lw_at lw_m9 3 rfl) rfl
theorem q2027 : (Jvm.Cond.privateMethod ({ cls := "NobodysBardModel", name := "isThere", desc := "(I)Z" } : Jvm.MethodName)) ∈ lw_tbl := lw_at lw_m9 4 rfl
theorem q2028 : (Jvm.Cond.instanceMethod ({ cls := "NobodysBardModel", name := "isThere", desc := "(I)Z" } : Jvm.MethodName)) ∈ lw_all := lw_g (lw_at lw_m9 5 rfl) rfl
theorem q2029 : (Jvm.Cond.code ({ cls := "NobodysBardModel", name := "isThere", desc := "(I)Z" } : Jvm.MethodName) prog_28_method_75_code (2 : Nat) (Option.some Jvm.ClassFile.FieldType.boolean)) ∈ lw_all := lw_g (lw_at lw_m9 6 rfl) rfl
theorem q2030 : (Jvm.Cond.methodLink "NobodysBardModel" (327 : Nat) ({ cls := "NobodysBardModel", name := "isBack", desc := "(I)Z" } : Jvm.MethodName)) ∈ lw_all := lw_g (lw_at lw_m9 7 rfl) rfl
theorem q2031 : (Jvm.Cond.privateMethod ({ cls := "NobodysBardModel", name := "isBack", desc := "(I)Z" } : Jvm.MethodName)) ∈ lw_tbl := lw_at lw_m9 8 rfl
theorem q2032 : (Jvm.Cond.instanceMethod ({ cls := "NobodysBardModel", name := "isBack", desc := "(I)Z" } : Jvm.MethodName)) ∈ lw_all := lw_g (lw_at lw_m9 9 rfl) rfl
theorem q2033 : (Jvm.Cond.code ({ cls := "NobodysBardModel", name := "isBack", desc := "(I)Z" } : Jvm.MethodName) prog_28_method_77_code (4 : Nat) (Option.some Jvm.ClassFile.FieldType.boolean)) ∈ lw_all := lw_g (lw_at lw_m9 10 rfl) rfl
theorem q2034 : (Jvm.Cond.methodLink "NobodysBardModel" (321 : Nat) ({ cls := "NobodysBardModel", name := "isBehind", desc := "(I)Z" } : Jvm.MethodName)) ∈ lw_all := lw_g (lw_at lw_m9 11 rfl) rfl
theorem q2035 : (Jvm.Cond.privateMethod ({ cls := "NobodysBardModel", name := "isBehind", desc := "(I)Z" } : Jvm.MethodName)) ∈ lw_tbl := lw_at lw_m9 12 rfl
theorem q2036 : (Jvm.Cond.instanceMethod ({ cls := "NobodysBardModel", name := "isBehind", desc := "(I)Z" } : Jvm.MethodName)) ∈ lw_all := lw_g (lw_at lw_m9 13 rfl) rfl
theorem q2037 : (Jvm.Cond.code ({ cls := "NobodysBardModel", name := "isBehind", desc := "(I)Z" } : Jvm.MethodName) prog_28_method_76_code (2 : Nat) (Option.some Jvm.ClassFile.FieldType.boolean)) ∈ lw_all := lw_g (lw_at lw_m9 14 rfl) rfl
theorem q2039 : (Jvm.Cond.instanceMethod ({ cls := "NobodysBardModel", name := "backOdds", desc := "(II)I" } : Jvm.MethodName)) ∈ lw_all := lw_g (lw_at lw_m9 16 rfl) rfl
theorem q2040 : (Jvm.Cond.selects "NobodysBardModel" ({ cls := "NobodysBardModel", name := "backOdds", desc := "(II)I" } : Jvm.MethodName) ({ cls := "NobodysBardModel", name := "backOdds", desc := "(II)I" } : Jvm.MethodName)) ∈ lw_all := lw_g (lw_at lw_m9 17 rfl) rfl
theorem q2041 : (Jvm.Cond.code ({ cls := "NobodysBardModel", name := "backOdds", desc := "(II)I" } : Jvm.MethodName) prog_28_method_79_code (5 : Nat) (Option.some Jvm.ClassFile.FieldType.int)) ∈ lw_all := lw_g (lw_at lw_m9 18 rfl) rfl
theorem q2042 : (Jvm.Cond.constantLong "NobodysBardModel" (330 : Nat) (10 : Int64)) ∈ lw_all := lw_g (lw_at lw_m9 19 rfl) rfl
theorem q2044 : (Jvm.Cond.instanceMethod ({ cls := "NobodysBardModel", name := "parted", desc := "(IZ)I" } : Jvm.MethodName)) ∈ lw_all := lw_g (lw_at lw_m9 21 rfl) rfl
theorem q2045 : (Jvm.Cond.selects "NobodysBardModel" ({ cls := "NobodysBardModel", name := "parted", desc := "(IZ)I" } : Jvm.MethodName) ({ cls := "NobodysBardModel", name := "parted", desc := "(IZ)I" } : Jvm.MethodName)) ∈ lw_all := lw_g (lw_at lw_m9 22 rfl) rfl
theorem q2046 : (Jvm.Cond.code ({ cls := "NobodysBardModel", name := "parted", desc := "(IZ)I" } : Jvm.MethodName) prog_28_method_80_code (6 : Nat) (Option.some Jvm.ClassFile.FieldType.int)) ∈ lw_all := lw_g (lw_at lw_m9 23 rfl) rfl
theorem q2048 : (Jvm.Cond.instanceMethod ({ cls := "NobodysBardModel", name := "muddled", desc := "(I)I" } : Jvm.MethodName)) ∈ lw_all := lw_g (lw_at lw_m9 25 rfl) rfl
theorem q2049 : (Jvm.Cond.selects "NobodysBardModel" ({ cls := "NobodysBardModel", name := "muddled", desc := "(I)I" } : Jvm.MethodName) ({ cls := "NobodysBardModel", name := "muddled", desc := "(I)I" } : Jvm.MethodName)) ∈ lw_all := lw_g (lw_at lw_m9 26 rfl) rfl
theorem q2050 : (Jvm.Cond.code ({ cls := "NobodysBardModel", name := "muddled", desc := "(I)I" } : Jvm.MethodName) prog_28_method_82_code (4 : Nat) (Option.some Jvm.ClassFile.FieldType.int)) ∈ lw_all := lw_g (lw_at lw_m9 27 rfl) rfl
theorem q2051 : (Jvm.Cond.methodLink "NobodysBardModel" (332 : Nat) ({ cls := "NobodysBardModel", name := "isMuddled", desc := "(I)Z" } : Jvm.MethodName)) ∈ lw_all := lw_g (lw_at lw_m9 28 rfl) rfl
theorem q2052 : (Jvm.Cond.privateMethod ({ cls := "NobodysBardModel", name := "isMuddled", desc := "(I)Z" } : Jvm.MethodName)) ∈ lw_tbl := lw_at lw_m9 29 rfl
theorem q2053 : (Jvm.Cond.instanceMethod ({ cls := "NobodysBardModel", name := "isMuddled", desc := "(I)Z" } : Jvm.MethodName)) ∈ lw_all := lw_g (lw_at lw_m9 30 rfl) rfl
theorem q2054 : (Jvm.Cond.code ({ cls := "NobodysBardModel", name := "isMuddled", desc := "(I)Z" } : Jvm.MethodName) prog_28_method_81_code (4 : Nat) (Option.some Jvm.ClassFile.FieldType.boolean)) ∈ lw_all := lw_g (lw_at lw_m9 31 rfl) rfl
theorem q2056 : (Jvm.Cond.instanceMethod ({ cls := "NobodysBardModel", name := "glen", desc := "(II)I" } : Jvm.MethodName)) ∈ lw_all := lw_g (lw_at lw_m9 33 rfl) rfl
theorem q2057 : (Jvm.Cond.selects "NobodysBardModel" ({ cls := "NobodysBardModel", name := "glen", desc := "(II)I" } : Jvm.MethodName) ({ cls := "NobodysBardModel", name := "glen", desc := "(II)I" } : Jvm.MethodName)) ∈ lw_all := lw_g (lw_at lw_m9 34 rfl) rfl
theorem q2058 : (Jvm.Cond.code ({ cls := "NobodysBardModel", name := "glen", desc := "(II)I" } : Jvm.MethodName) prog_28_method_83_code (6 : Nat) (Option.some Jvm.ClassFile.FieldType.int)) ∈ lw_all := lw_g (lw_at lw_m9 35 rfl) rfl
theorem q2059 : (Jvm.Cond.constantLong "NobodysBardModel" (335 : Nat) (3 : Int64)) ∈ lw_all := lw_g (lw_at lw_m9 36 rfl) rfl
theorem q2061 : (Jvm.Cond.instanceMethod ({ cls := "NobodysBardModel", name := "paid", desc := "(II)I" } : Jvm.MethodName)) ∈ lw_all := lw_g (lw_at lw_m9 38 rfl) rfl
theorem q2062 : (Jvm.Cond.selects "NobodysBardModel" ({ cls := "NobodysBardModel", name := "paid", desc := "(II)I" } : Jvm.MethodName) ({ cls := "NobodysBardModel", name := "paid", desc := "(II)I" } : Jvm.MethodName)) ∈ lw_all := lw_g (lw_at lw_m9 39 rfl) rfl
theorem q2063 : (Jvm.Cond.code ({ cls := "NobodysBardModel", name := "paid", desc := "(II)I" } : Jvm.MethodName) prog_28_method_84_code (3 : Nat) (Option.some Jvm.ClassFile.FieldType.int)) ∈ lw_all := lw_g (lw_at lw_m9 40 rfl) rfl
theorem q2064 : (Jvm.Cond.constantLong "NobodysBardModel" (337 : Nat) (999 : Int64)) ∈ lw_all := lw_g (lw_at lw_m9 41 rfl) rfl
theorem q2066 : (Jvm.Cond.instanceMethod ({ cls := "NobodysBardModel", name := "pages", desc := "(II)I" } : Jvm.MethodName)) ∈ lw_all := lw_g (lw_at lw_m9 43 rfl) rfl
theorem q2067 : (Jvm.Cond.selects "NobodysBardModel" ({ cls := "NobodysBardModel", name := "pages", desc := "(II)I" } : Jvm.MethodName) ({ cls := "NobodysBardModel", name := "pages", desc := "(II)I" } : Jvm.MethodName)) ∈ lw_all := lw_g (lw_at lw_m9 44 rfl) rfl
theorem q2068 : (Jvm.Cond.code ({ cls := "NobodysBardModel", name := "pages", desc := "(II)I" } : Jvm.MethodName) prog_28_method_85_code (3 : Nat) (Option.some Jvm.ClassFile.FieldType.int)) ∈ lw_all := lw_g (lw_at lw_m9 45 rfl) rfl
theorem q2069 : (Jvm.Cond.constantLong "NobodysBardModel" (339 : Nat) (99 : Int64)) ∈ lw_all := lw_g (lw_at lw_m9 46 rfl) rfl
theorem q2071 : (Jvm.Cond.instanceMethod ({ cls := "NobodysBardModel", name := "more", desc := "(II)I" } : Jvm.MethodName)) ∈ lw_all := lw_g (lw_at lw_m9 48 rfl) rfl
theorem q2072 : (Jvm.Cond.selects "NobodysBardModel" ({ cls := "NobodysBardModel", name := "more", desc := "(II)I" } : Jvm.MethodName) ({ cls := "NobodysBardModel", name := "more", desc := "(II)I" } : Jvm.MethodName)) ∈ lw_all := lw_g (lw_at lw_m9 49 rfl) rfl
theorem q2073 : (Jvm.Cond.code ({ cls := "NobodysBardModel", name := "more", desc := "(II)I" } : Jvm.MethodName) prog_28_method_87_code (6 : Nat) (Option.some Jvm.ClassFile.FieldType.int)) ∈ lw_all := lw_g (lw_at lw_m9 50 rfl) rfl
theorem q2074 : (Jvm.Cond.methodLink "NobodysBardModel" (341 : Nat) ({ cls := "NobodysBardModel", name := "pagesIn", desc := "(II)I" } : Jvm.MethodName)) ∈ lw_all := lw_g (lw_at lw_m9 51 rfl) rfl
theorem q2075 : (Jvm.Cond.privateMethod ({ cls := "NobodysBardModel", name := "pagesIn", desc := "(II)I" } : Jvm.MethodName)) ∈ lw_tbl := lw_at lw_m9 52 rfl
theorem q2076 : (Jvm.Cond.instanceMethod ({ cls := "NobodysBardModel", name := "pagesIn", desc := "(II)I" } : Jvm.MethodName)) ∈ lw_all := lw_g (lw_at lw_m9 53 rfl) rfl
theorem q2077 : (Jvm.Cond.code ({ cls := "NobodysBardModel", name := "pagesIn", desc := "(II)I" } : Jvm.MethodName) prog_28_method_86_code (5 : Nat) (Option.some Jvm.ClassFile.FieldType.int)) ∈ lw_all := lw_g (lw_at lw_m9 54 rfl) rfl
theorem q2079 : (Jvm.Cond.instanceMethod ({ cls := "NobodysBardModel", name := "free", desc := "(II)I" } : Jvm.MethodName)) ∈ lw_all := lw_g (lw_at lw_m9 56 rfl) rfl
theorem q2080 : (Jvm.Cond.selects "NobodysBardModel" ({ cls := "NobodysBardModel", name := "free", desc := "(II)I" } : Jvm.MethodName) ({ cls := "NobodysBardModel", name := "free", desc := "(II)I" } : Jvm.MethodName)) ∈ lw_all := lw_g (lw_at lw_m9 57 rfl) rfl
theorem q2081 : (Jvm.Cond.code ({ cls := "NobodysBardModel", name := "free", desc := "(II)I" } : Jvm.MethodName) prog_28_method_88_code (3 : Nat) (Option.some Jvm.ClassFile.FieldType.int)) ∈ lw_all := lw_g (lw_at lw_m9 58 rfl) rfl
theorem q2083 : (Jvm.Cond.instanceMethod ({ cls := "NobodysBardModel", name := "rate", desc := "()I" } : Jvm.MethodName)) ∈ lw_all := lw_g (lw_at lw_m9 60 rfl) rfl
theorem q2084 : (Jvm.Cond.selects "NobodysBardModel" ({ cls := "NobodysBardModel", name := "rate", desc := "()I" } : Jvm.MethodName) ({ cls := "NobodysBardModel", name := "rate", desc := "()I" } : Jvm.MethodName)) ∈ lw_all := lw_g (lw_at lw_m9 61 rfl) rfl
theorem q2085 : (Jvm.Cond.code ({ cls := "NobodysBardModel", name := "rate", desc := "()I" } : Jvm.MethodName) prog_28_method_91_code (6 : Nat) (Option.some Jvm.ClassFile.FieldType.int)) ∈ lw_all := lw_g (lw_at lw_m9 62 rfl) rfl
theorem q2086 : (Jvm.Cond.methodLink "NobodysBardModel" (347 : Nat) ({ cls := "NobodysBardModel", name := "freeUpTo", desc := "(I)I" } : Jvm.MethodName)) ∈ lw_all := lw_g (lw_at lw_m9 63 rfl) rfl
theorem q2087 : (Jvm.Cond.privateMethod ({ cls := "NobodysBardModel", name := "freeUpTo", desc := "(I)I" } : Jvm.MethodName)) ∈ lw_tbl := lw_at lw_m9 64 rfl
theorem q2088 : (Jvm.Cond.instanceMethod ({ cls := "NobodysBardModel", name := "freeUpTo", desc := "(I)I" } : Jvm.MethodName)) ∈ lw_all := lw_g (lw_at lw_m9 65 rfl) rfl
theorem q2089 : (Jvm.Cond.code ({ cls := "NobodysBardModel", name := "freeUpTo", desc := "(I)I" } : Jvm.MethodName) prog_28_method_90_code (4 : Nat) (Option.some Jvm.ClassFile.FieldType.int)) ∈ lw_all := lw_g (lw_at lw_m9 66 rfl) rfl
theorem q2090 : (Jvm.Cond.methodLink "NobodysBardModel" (344 : Nat) ({ cls := "NobodysBardModel", name := "isFree", desc := "(I)Z" } : Jvm.MethodName)) ∈ lw_all := lw_g (lw_at lw_m9 67 rfl) rfl
theorem q2091 : (Jvm.Cond.privateMethod ({ cls := "NobodysBardModel", name := "isFree", desc := "(I)Z" } : Jvm.MethodName)) ∈ lw_tbl := lw_at lw_m9 68 rfl
theorem q2092 : (Jvm.Cond.instanceMethod ({ cls := "NobodysBardModel", name := "isFree", desc := "(I)Z" } : Jvm.MethodName)) ∈ lw_all := lw_g (lw_at lw_m9 69 rfl) rfl
theorem q2093 : (Jvm.Cond.code ({ cls := "NobodysBardModel", name := "isFree", desc := "(I)Z" } : Jvm.MethodName) prog_28_method_89_code (4 : Nat) (Option.some Jvm.ClassFile.FieldType.boolean)) ∈ lw_all := lw_g (lw_at lw_m9 70 rfl) rfl
theorem q2095 : (Jvm.Cond.instanceMethod ({ cls := "NobodysBardModel", name := "world", desc := "(I)I" } : Jvm.MethodName)) ∈ lw_all := lw_g (lw_at lw_m9 72 rfl) rfl
theorem q2096 : (Jvm.Cond.selects "NobodysBardModel" ({ cls := "NobodysBardModel", name := "world", desc := "(I)I" } : Jvm.MethodName) ({ cls := "NobodysBardModel", name := "world", desc := "(I)I" } : Jvm.MethodName)) ∈ lw_all := lw_g (lw_at lw_m9 73 rfl) rfl
theorem q2097 : (Jvm.Cond.code ({ cls := "NobodysBardModel", name := "world", desc := "(I)I" } : Jvm.MethodName) prog_28_method_92_code (3 : Nat) (Option.some Jvm.ClassFile.FieldType.int)) ∈ lw_all := lw_g (lw_at lw_m9 74 rfl) rfl
theorem q2099 : (Jvm.Cond.instanceMethod ({ cls := "NobodysBardModel", name := "says", desc := "(III)I" } : Jvm.MethodName)) ∈ lw_all := lw_g (lw_at lw_m9 76 rfl) rfl
theorem q2100 : (Jvm.Cond.selects "NobodysBardModel" ({ cls := "NobodysBardModel", name := "says", desc := "(III)I" } : Jvm.MethodName) ({ cls := "NobodysBardModel", name := "says", desc := "(III)I" } : Jvm.MethodName)) ∈ lw_all := lw_g (lw_at lw_m9 77 rfl) rfl
theorem q2101 : (Jvm.Cond.code ({ cls := "NobodysBardModel", name := "says", desc := "(III)I" } : Jvm.MethodName) prog_28_method_93_code (5 : Nat) (Option.some Jvm.ClassFile.FieldType.int)) ∈ lw_all := lw_g (lw_at lw_m9 78 rfl) rfl
theorem q2103 : (Jvm.Cond.instanceMethod ({ cls := "NobodysBardModel", name := "ask", desc := "(II)I" } : Jvm.MethodName)) ∈ lw_all := lw_g (lw_at lw_m9 80 rfl) rfl
theorem q2104 : (Jvm.Cond.selects "NobodysBardModel" ({ cls := "NobodysBardModel", name := "ask", desc := "(II)I" } : Jvm.MethodName) ({ cls := "NobodysBardModel", name := "ask", desc := "(II)I" } : Jvm.MethodName)) ∈ lw_all := lw_g (lw_at lw_m9 81 rfl) rfl
theorem q2105 : (Jvm.Cond.code ({ cls := "NobodysBardModel", name := "ask", desc := "(II)I" } : Jvm.MethodName) prog_28_method_97_code (7 : Nat) (Option.some Jvm.ClassFile.FieldType.int)) ∈ lw_all := lw_g (lw_at lw_m9 82 rfl) rfl
theorem q2106 : (Jvm.Cond.methodLink "NobodysBardModel" (356 : Nat) ({ cls := "NobodysBardModel", name := "costBy", desc := "(II)I" } : Jvm.MethodName)) ∈ lw_all := lw_g (lw_at lw_m9 83 rfl) rfl
theorem q2107 : (Jvm.Cond.privateMethod ({ cls := "NobodysBardModel", name := "costBy", desc := "(II)I" } : Jvm.MethodName)) ∈ lw_tbl := lw_at lw_m9 84 rfl
theorem q2108 : (Jvm.Cond.instanceMethod ({ cls := "NobodysBardModel", name := "costBy", desc := "(II)I" } : Jvm.MethodName)) ∈ lw_all := lw_g (lw_at lw_m9 85 rfl) rfl
theorem q2109 : (Jvm.Cond.code ({ cls := "NobodysBardModel", name := "costBy", desc := "(II)I" } : Jvm.MethodName) prog_28_method_96_code (6 : Nat) (Option.some Jvm.ClassFile.FieldType.int)) ∈ lw_all := lw_g (lw_at lw_m9 86 rfl) rfl
theorem q2110 : (Jvm.Cond.methodLink "NobodysBardModel" (350 : Nat) ({ cls := "NobodysBardModel", name := "weightOf", desc := "(I)I" } : Jvm.MethodName)) ∈ lw_all := lw_g (lw_at lw_m9 87 rfl) rfl
theorem q2111 : (Jvm.Cond.privateMethod ({ cls := "NobodysBardModel", name := "weightOf", desc := "(I)I" } : Jvm.MethodName)) ∈ lw_tbl := lw_at lw_m9 88 rfl
theorem q2112 : (Jvm.Cond.instanceMethod ({ cls := "NobodysBardModel", name := "weightOf", desc := "(I)I" } : Jvm.MethodName)) ∈ lw_all := lw_g (lw_at lw_m9 89 rfl) rfl
theorem q2113 : (Jvm.Cond.code ({ cls := "NobodysBardModel", name := "weightOf", desc := "(I)I" } : Jvm.MethodName) prog_28_method_95_code (4 : Nat) (Option.some Jvm.ClassFile.FieldType.int)) ∈ lw_all := lw_g (lw_at lw_m9 90 rfl) rfl
theorem q2114 : (Jvm.Cond.methodLink "NobodysBardModel" (353 : Nat) ({ cls := "NobodysBardModel", name := "saying", desc := "(III)I" } : Jvm.MethodName)) ∈ lw_all := lw_g (lw_at lw_m9 91 rfl) rfl
theorem q2115 : (Jvm.Cond.privateMethod ({ cls := "NobodysBardModel", name := "saying", desc := "(III)I" } : Jvm.MethodName)) ∈ lw_tbl := lw_at lw_m9 92 rfl
theorem q2116 : (Jvm.Cond.instanceMethod ({ cls := "NobodysBardModel", name := "saying", desc := "(III)I" } : Jvm.MethodName)) ∈ lw_all := lw_g (lw_at lw_m9 93 rfl) rfl
theorem q2117 : (Jvm.Cond.code ({ cls := "NobodysBardModel", name := "saying", desc := "(III)I" } : Jvm.MethodName) prog_28_method_94_code (6 : Nat) (Option.some Jvm.ClassFile.FieldType.int)) ∈ lw_all := lw_g (lw_at lw_m9 94 rfl) rfl
theorem q2119 : (Jvm.Cond.instanceMethod ({ cls := "NobodysBardModel", name := "row", desc := "(III)I" } : Jvm.MethodName)) ∈ lw_all := lw_g (lw_at lw_m9 96 rfl) rfl
theorem q2120 : (Jvm.Cond.selects "NobodysBardModel" ({ cls := "NobodysBardModel", name := "row", desc := "(III)I" } : Jvm.MethodName) ({ cls := "NobodysBardModel", name := "row", desc := "(III)I" } : Jvm.MethodName)) ∈ lw_all := lw_g (lw_at lw_m9 97 rfl) rfl
theorem q2121 : (Jvm.Cond.code ({ cls := "NobodysBardModel", name := "row", desc := "(III)I" } : Jvm.MethodName) prog_28_method_99_code (5 : Nat) (Option.some Jvm.ClassFile.FieldType.int)) ∈ lw_all := lw_g (lw_at lw_m9 98 rfl) rfl
theorem q2122 : (Jvm.Cond.constantLong "NobodysBardModel" (359 : Nat) (60 : Int64)) ∈ lw_all := lw_g (lw_at lw_m9 99 rfl) rfl
theorem q2124 : (Jvm.Cond.instanceMethod ({ cls := "NobodysBardModel", name := "write", desc := "(IIJ)J" } : Jvm.MethodName)) ∈ lw_all := lw_g (lw_at lw_m9 101 rfl) rfl
theorem q2125 : (Jvm.Cond.selects "NobodysBardModel" ({ cls := "NobodysBardModel", name := "write", desc := "(IIJ)J" } : Jvm.MethodName) ({ cls := "NobodysBardModel", name := "write", desc := "(IIJ)J" } : Jvm.MethodName)) ∈ lw_all := lw_g (lw_at lw_m9 102 rfl) rfl
theorem q2126 : (Jvm.Cond.code ({ cls := "NobodysBardModel", name := "write", desc := "(IIJ)J" } : Jvm.MethodName) prog_28_method_100_code (5 : Nat) (Option.some Jvm.ClassFile.FieldType.long)) ∈ lw_all := lw_g (lw_at lw_m9 103 rfl) rfl
theorem q2127 : (Jvm.Cond.methodLink "NobodysBardModel" (361 : Nat) ({ cls := "NobodysBardModel", name := "cut", desc := "(JI)J" } : Jvm.MethodName)) ∈ lw_all := lw_g (lw_at lw_m9 104 rfl) rfl
theorem q2128 : (Jvm.Cond.static ({ cls := "NobodysBardModel", name := "cut", desc := "(JI)J" } : Jvm.MethodName)) ∈ lw_all := lw_g (lw_at lw_m9 105 rfl) rfl
theorem q2129 : (Jvm.Cond.code ({ cls := "NobodysBardModel", name := "cut", desc := "(JI)J" } : Jvm.MethodName) prog_28_method_98_code (3 : Nat) (Option.some Jvm.ClassFile.FieldType.long)) ∈ lw_all := lw_g (lw_at lw_m9 106 rfl) rfl
theorem q2131 : (Jvm.Cond.instanceMethod ({ cls := "NobodysBardModel", name := "minister", desc := "(I)I" } : Jvm.MethodName)) ∈ lw_all := lw_g (lw_at lw_m9 108 rfl) rfl
theorem q2132 : (Jvm.Cond.selects "NobodysBardModel" ({ cls := "NobodysBardModel", name := "minister", desc := "(I)I" } : Jvm.MethodName) ({ cls := "NobodysBardModel", name := "minister", desc := "(I)I" } : Jvm.MethodName)) ∈ lw_all := lw_g (lw_at lw_m9 109 rfl) rfl
theorem q2133 : (Jvm.Cond.code ({ cls := "NobodysBardModel", name := "minister", desc := "(I)I" } : Jvm.MethodName) prog_28_method_101_code (5 : Nat) (Option.some Jvm.ClassFile.FieldType.int)) ∈ lw_all := lw_g (lw_at lw_m9 110 rfl) rfl
theorem q2135 : (Jvm.Cond.instanceMethod ({ cls := "NobodysBardModel", name := "say", desc := "(I)I" } : Jvm.MethodName)) ∈ lw_all := lw_g (lw_at lw_m9 112 rfl) rfl
theorem q2136 : (Jvm.Cond.selects "NobodysBardModel" ({ cls := "NobodysBardModel", name := "say", desc := "(I)I" } : Jvm.MethodName) ({ cls := "NobodysBardModel", name := "say", desc := "(I)I" } : Jvm.MethodName)) ∈ lw_all := lw_g (lw_at lw_m9 113 rfl) rfl
theorem q2137 : (Jvm.Cond.code ({ cls := "NobodysBardModel", name := "say", desc := "(I)I" } : Jvm.MethodName) prog_28_method_103_code (3 : Nat) (Option.some Jvm.ClassFile.FieldType.int)) ∈ lw_all := lw_g (lw_at lw_m9 114 rfl) rfl
theorem q2138 : (Jvm.Cond.methodLink "NobodysBardModel" (364 : Nat) ({ cls := "NobodysBardModel", name := "isAnyEarly", desc := "()Z" } : Jvm.MethodName)) ∈ lw_all := lw_g (lw_at lw_m9 115 rfl) rfl
theorem q2139 : (Jvm.Cond.privateMethod ({ cls := "NobodysBardModel", name := "isAnyEarly", desc := "()Z" } : Jvm.MethodName)) ∈ lw_tbl := lw_at lw_m9 116 rfl
theorem q2140 : (Jvm.Cond.instanceMethod ({ cls := "NobodysBardModel", name := "isAnyEarly", desc := "()Z" } : Jvm.MethodName)) ∈ lw_all := lw_g (lw_at lw_m9 117 rfl) rfl
theorem q2141 : (Jvm.Cond.code ({ cls := "NobodysBardModel", name := "isAnyEarly", desc := "()Z" } : Jvm.MethodName) prog_28_method_102_code (3 : Nat) (Option.some Jvm.ClassFile.FieldType.boolean)) ∈ lw_all := lw_g (lw_at lw_m9 118 rfl) rfl
theorem q2143 : (Jvm.Cond.instanceMethod ({ cls := "NobodysBardModel", name := "image", desc := "(I)I" } : Jvm.MethodName)) ∈ lw_all := lw_g (lw_at lw_m9 120 rfl) rfl
theorem q2144 : (Jvm.Cond.selects "NobodysBardModel" ({ cls := "NobodysBardModel", name := "image", desc := "(I)I" } : Jvm.MethodName) ({ cls := "NobodysBardModel", name := "image", desc := "(I)I" } : Jvm.MethodName)) ∈ lw_all := lw_g (lw_at lw_m9 121 rfl) rfl
theorem q2145 : (Jvm.Cond.code ({ cls := "NobodysBardModel", name := "image", desc := "(I)I" } : Jvm.MethodName) prog_28_method_105_code (2 : Nat) (Option.some Jvm.ClassFile.FieldType.int)) ∈ lw_all := lw_g (lw_at lw_m9 122 rfl) rfl
theorem q2146 : (Jvm.Cond.methodLink "NobodysBardModel" (368 : Nat) ({ cls := "NobodysBardModel", name := "copies", desc := "(II)V" } : Jvm.MethodName)) ∈ lw_all := lw_g (lw_at lw_m9 123 rfl) rfl
theorem q2147 : (Jvm.Cond.privateMethod ({ cls := "NobodysBardModel", name := "copies", desc := "(II)V" } : Jvm.MethodName)) ∈ lw_tbl := lw_at lw_m9 124 rfl
theorem q2148 : (Jvm.Cond.instanceMethod ({ cls := "NobodysBardModel", name := "copies", desc := "(II)V" } : Jvm.MethodName)) ∈ lw_all := lw_g (lw_at lw_m9 125 rfl) rfl
theorem q2149 : (Jvm.Cond.code ({ cls := "NobodysBardModel", name := "copies", desc := "(II)V" } : Jvm.MethodName) prog_28_method_104_code (4 : Nat) (Option.none : Option Jvm.ClassFile.FieldType)) ∈ lw_all := lw_g (lw_at lw_m9 126 rfl) rfl
theorem q2151 : (Jvm.Cond.instanceMethod ({ cls := "NobodysBardModel", name := "restore", desc := "(I)I" } : Jvm.MethodName)) ∈ lw_all := lw_g (lw_at lw_m9 128 rfl) rfl
theorem q2152 : (Jvm.Cond.selects "NobodysBardModel" ({ cls := "NobodysBardModel", name := "restore", desc := "(I)I" } : Jvm.MethodName) ({ cls := "NobodysBardModel", name := "restore", desc := "(I)I" } : Jvm.MethodName)) ∈ lw_all := lw_g (lw_at lw_m9 129 rfl) rfl
theorem q2153 : (Jvm.Cond.code ({ cls := "NobodysBardModel", name := "restore", desc := "(I)I" } : Jvm.MethodName) prog_28_method_106_code (2 : Nat) (Option.some Jvm.ClassFile.FieldType.int)) ∈ lw_all := lw_g (lw_at lw_m9 130 rfl) rfl
theorem q2155 : (Jvm.Cond.instanceMethod ({ cls := "NobodysBardModel", name := "status", desc := "(I)I" } : Jvm.MethodName)) ∈ lw_all := lw_g (lw_at lw_m9 132 rfl) rfl
theorem q2156 : (Jvm.Cond.selects "NobodysBardModel" ({ cls := "NobodysBardModel", name := "status", desc := "(I)I" } : Jvm.MethodName) ({ cls := "NobodysBardModel", name := "status", desc := "(I)I" } : Jvm.MethodName)) ∈ lw_all := lw_g (lw_at lw_m9 133 rfl) rfl
theorem q2157 : (Jvm.Cond.code ({ cls := "NobodysBardModel", name := "status", desc := "(I)I" } : Jvm.MethodName) prog_28_method_107_code (2 : Nat) (Option.some Jvm.ClassFile.FieldType.int)) ∈ lw_all := lw_g (lw_at lw_m9 134 rfl) rfl
theorem q2158 : (Jvm.Cond.constantLong "NobodysBardModel" (371 : Nat) (7 : Int64)) ∈ lw_all := lw_g (lw_at lw_m9 135 rfl) rfl
theorem q2160 : (Jvm.Cond.instanceMethod ({ cls := "NobodysBardModel", name := "count", desc := "(I)I" } : Jvm.MethodName)) ∈ lw_all := lw_g (lw_at lw_m9 137 rfl) rfl
theorem q2161 : (Jvm.Cond.selects "NobodysBardModel" ({ cls := "NobodysBardModel", name := "count", desc := "(I)I" } : Jvm.MethodName) ({ cls := "NobodysBardModel", name := "count", desc := "(I)I" } : Jvm.MethodName)) ∈ lw_all := lw_g (lw_at lw_m9 138 rfl) rfl
theorem q2162 : (Jvm.Cond.code ({ cls := "NobodysBardModel", name := "count", desc := "(I)I" } : Jvm.MethodName) prog_28_method_108_code (2 : Nat) (Option.some Jvm.ClassFile.FieldType.int)) ∈ lw_all := lw_g (lw_at lw_m9 139 rfl) rfl
theorem q2163 : (Jvm.Cond.constantLong "NobodysBardModel" (373 : Nat) (200 : Int64)) ∈ lw_all := lw_g (lw_at lw_m9 140 rfl) rfl
theorem q2176 : (Jvm.Cond.castable "NobodysBardModel" "java/lang/Object") ∈ lw_tbl := lw_at lw_m9 153 rfl
theorem in_X6 : ∀ w ∈ wsX60, w ∈ lw_all := lw_in wsX60 [1652, 1654, 1656, 1658, 1660, 1662, 1664, 1666, 1668, 1670, 1672, 1674, 1676, 1678, 1680, 1682, 1684, 1686, 1688, 1690, 1692, 1694, 1696, 1698, 1700, 1702, 1704, 1706, 1708, 1710, 1712, 1714, 1716, 1718, 1720, 1722, 1724, 1726] (by decide +kernel) (by decide +kernel)
/-! NobodysBard -/
set_option maxRecDepth 100000
def RX0 : String := "NobodysBard"
def TX0 : u_T := fun k => match k with
  | 0 => ("NobodysBard", "common", "[I", true)
  | 1 => ("NobodysBard", "s", "LNobodysBard$State;", false)
  | 2 => ("NobodysBard", "images", "[LNobodysBard$State;", true)
  | 3 => ("NobodysBard", "refused", "[I", true)
  | 4 => ("NobodysBard", "tape", "[B", true)
  | 5 => ("NobodysBard", "taped", "I", false)
  | 6 => ("NobodysBard", "faultKind", "I", false)
  | 7 => ("NobodysBard", "faultPlace", "I", false)
  | 8 => ("NobodysBard", "x", "I", false)
  | 9 => ("NobodysBard", "mayBe", "LNobodysBard$Comes;", true)
  | 10 => ("NobodysBard", "own", "LNobodysBard$Comes;", true)
  | 11 => ("NobodysBard", "most", "I", false)
  | 12 => ("NobodysBard", "mostOwner", "I", false)
  | 13 => ("NobodysBard", "mostLine", "I", false)
  | 14 => ("NobodysBard", "smooth", "[LNobodysBard$Phrase;", true)
  | 15 => ("NobodysBard", "bookSmooth", "[LNobodysBard$Phrase;", true)
  | 16 => ("NobodysBard", "isSmooth", "Z", false)
  | 17 => ("NobodysBard", "kinds", "[I", true)
  | 18 => ("NobodysBard", "pairs", "I", false)
  | 19 => ("NobodysBard", "likes", "I", false)
  | 20 => ("NobodysBard", "cost", "[I", true)
  | 21 => ("NobodysBard", "asked", "[I", true)
  | _ => ("NobodysBard", "rows", "[LNobodysBard$Row;", true)
def tyX0 : Nat → FieldType := fun k => match k with
  | 0 => .array .int
  | 1 => .object "NobodysBard$State"
  | 2 => .array (.object "NobodysBard$State")
  | 3 => .array .int
  | 4 => .array .byte
  | 5 => .int
  | 6 => .int
  | 7 => .int
  | 8 => .int
  | 9 => .object "NobodysBard$Comes"
  | 10 => .object "NobodysBard$Comes"
  | 11 => .int
  | 12 => .int
  | 13 => .int
  | 14 => .array (.object "NobodysBard$Phrase")
  | 15 => .array (.object "NobodysBard$Phrase")
  | 16 => .boolean
  | 17 => .array .int
  | 18 => .int
  | 19 => .int
  | 20 => .array .int
  | 21 => .array .int
  | _ => .array (.object "NobodysBard$Row")
abbrev wsX00 : List Cond := u_ws RX0 TX0 23
set_option maxRecDepth 100000 in
theorem nmX0 : ∀ a, a < 23 → ∀ b, b < 23 → a ≠ b → (TX0 a).2.1 ≠ (TX0 b).2.1 := by decide +kernel
set_option maxRecDepth 100000 in
theorem tyX0_ok : ∀ k, k < 23 → parseFieldDescriptor (TX0 k).2.2.1 = some (tyX0 k) := by decide +kernel
theorem q104 : (Jvm.Cond.initialized "NobodysBard") ∈ lw_all := lw_g (lw_at lw_m1 1 rfl) rfl
theorem q149 : (Jvm.Cond.instantiable "NobodysBard" (23 : Nat)) ∈ lw_all := lw_g (lw_at lw_m1 46 rfl) rfl
theorem q151 : (Jvm.Cond.instanceMethod ({ cls := "NobodysBard", name := "<init>", desc := "()V" } : Jvm.MethodName)) ∈ lw_all := lw_g (lw_at lw_m1 48 rfl) rfl
theorem q152 : (Jvm.Cond.code ({ cls := "NobodysBard", name := "<init>", desc := "()V" } : Jvm.MethodName) prog_1_method_5_code (1 : Nat) (Option.none : Option Jvm.ClassFile.FieldType)) ∈ lw_all := lw_g (lw_at lw_m1 49 rfl) rfl
theorem q153 : (Jvm.Cond.methodLink "NobodysBard" (52 : Nat) ({ cls := "java/lang/Object", name := "<init>", desc := "()V" } : Jvm.MethodName)) ∈ lw_all := lw_g (lw_at lw_m1 50 rfl) rfl
theorem q156 : (Jvm.Cond.classLink "NobodysBard" (31 : Nat) "NobodysBard$State") ∈ lw_all := lw_g (lw_at lw_m1 53 rfl) rfl
theorem q158 : (Jvm.Cond.methodLinkNest "NobodysBard" (58 : Nat) ({ cls := "NobodysBard$State", name := "<init>", desc := "()V" } : Jvm.MethodName) "NobodysBard") ∈ lw_tbl := lw_at lw_m1 55 rfl
theorem q198 : (Jvm.Cond.fieldLinkNest "NobodysBard" (279 : Nat) "NobodysBard$Law" "lose" "I" "NobodysBard") ∈ lw_tbl := lw_at lw_m1 95 rfl
theorem q200 : (Jvm.Cond.fieldLinkNest "NobodysBard" (291 : Nat) "NobodysBard$Law" "move" "I" "NobodysBard") ∈ lw_tbl := lw_at lw_m1 97 rfl
theorem q202 : (Jvm.Cond.fieldLinkNest "NobodysBard" (285 : Nat) "NobodysBard$Law" "smooth" "I" "NobodysBard") ∈ lw_tbl := lw_at lw_m1 99 rfl
theorem q204 : (Jvm.Cond.fieldLinkNest "NobodysBard" (254 : Nat) "NobodysBard$Law" "ways" "I" "NobodysBard") ∈ lw_tbl := lw_at lw_m1 101 rfl
theorem q207 : (Jvm.Cond.fieldLinkNest "NobodysBard" (267 : Nat) "NobodysBard$Law" "said" "[I" "NobodysBard") ∈ lw_tbl := lw_at lw_m1 104 rfl
theorem q220 : (Jvm.Cond.fieldLinkNest "NobodysBard" (181 : Nat) "NobodysBard$State" "printDay" "I" "NobodysBard") ∈ lw_tbl := lw_at lw_m1 117 rfl
theorem q222 : (Jvm.Cond.fieldLinkNest "NobodysBard" (186 : Nat) "NobodysBard$State" "high" "I" "NobodysBard") ∈ lw_tbl := lw_at lw_m1 119 rfl
theorem q224 : (Jvm.Cond.fieldLinkNest "NobodysBard" (189 : Nat) "NobodysBard$State" "low" "I" "NobodysBard") ∈ lw_tbl := lw_at lw_m1 121 rfl
theorem q226 : (Jvm.Cond.fieldLinkNest "NobodysBard" (135 : Nat) "NobodysBard$State" "songs" "Ljava/util/ArrayList;" "NobodysBard") ∈ lw_tbl := lw_at lw_m1 123 rfl
theorem q228 : (Jvm.Cond.fieldLinkNest "NobodysBard" (138 : Nat) "NobodysBard$State" "books" "Ljava/util/ArrayList;" "NobodysBard") ∈ lw_tbl := lw_at lw_m1 125 rfl
theorem q230 : (Jvm.Cond.fieldLinkNest "NobodysBard" (154 : Nat) "NobodysBard$State" "print" "Ljava/util/ArrayList;" "NobodysBard") ∈ lw_tbl := lw_at lw_m1 127 rfl
theorem q232 : (Jvm.Cond.fieldLinkNest "NobodysBard" (199 : Nat) "NobodysBard$State" "versions" "Ljava/util/ArrayList;" "NobodysBard") ∈ lw_tbl := lw_at lw_m1 129 rfl
theorem q234 : (Jvm.Cond.fieldLinkNest "NobodysBard" (413 : Nat) "NobodysBard$State" "answers" "Ljava/util/ArrayList;" "NobodysBard") ∈ lw_tbl := lw_at lw_m1 131 rfl
theorem q236 : (Jvm.Cond.fieldLinkNest "NobodysBard" (452 : Nat) "NobodysBard$State" "paid" "Ljava/util/ArrayList;" "NobodysBard") ∈ lw_tbl := lw_at lw_m1 133 rfl
theorem q238 : (Jvm.Cond.fieldLinkNest "NobodysBard" (460 : Nat) "NobodysBard$State" "pages" "Ljava/util/ArrayList;" "NobodysBard") ∈ lw_tbl := lw_at lw_m1 135 rfl
theorem q240 : (Jvm.Cond.fieldLinkNest "NobodysBard" (472 : Nat) "NobodysBard$State" "free" "Ljava/util/ArrayList;" "NobodysBard") ∈ lw_tbl := lw_at lw_m1 137 rfl
theorem q242 : (Jvm.Cond.fieldLinkNest "NobodysBard" (398 : Nat) "NobodysBard$State" "years" "[I" "NobodysBard") ∈ lw_tbl := lw_at lw_m1 139 rfl
theorem q244 : (Jvm.Cond.fieldLinkNest "NobodysBard" (481 : Nat) "NobodysBard$State" "weights" "[I" "NobodysBard") ∈ lw_tbl := lw_at lw_m1 141 rfl
theorem q246 : (Jvm.Cond.fieldLinkNest "NobodysBard" (484 : Nat) "NobodysBard$State" "says" "[I" "NobodysBard") ∈ lw_tbl := lw_at lw_m1 143 rfl
theorem q248 : (Jvm.Cond.fieldLinkNest "NobodysBard" (478 : Nat) "NobodysBard$State" "worlds" "I" "NobodysBard") ∈ lw_tbl := lw_at lw_m1 145 rfl
theorem q250 : (Jvm.Cond.fieldLinkNest "NobodysBard" (30 : Nat) "NobodysBard$State" "rules" "Ljava/util/ArrayList;" "NobodysBard") ∈ lw_tbl := lw_at lw_m1 147 rfl
theorem q252 : (Jvm.Cond.fieldLinkNest "NobodysBard" (253 : Nat) "NobodysBard$State" "law" "LNobodysBard$Law;" "NobodysBard") ∈ lw_tbl := lw_at lw_m1 149 rfl
theorem q289 : (Jvm.Cond.classLink "NobodysBard" (73 : Nat) "NobodysBard$MayBe") ∈ lw_all := lw_g (lw_at lw_m1 186 rfl) rfl
theorem q291 : (Jvm.Cond.methodLinkNest "NobodysBard" (75 : Nat) ({ cls := "NobodysBard$MayBe", name := "<init>", desc := "()V" } : Jvm.MethodName) "NobodysBard") ∈ lw_tbl := lw_at lw_m1 188 rfl
theorem q297 : (Jvm.Cond.classLink "NobodysBard" (80 : Nat) "NobodysBard$Own") ∈ lw_all := lw_g (lw_at lw_m1 194 rfl) rfl
theorem q299 : (Jvm.Cond.methodLinkNest "NobodysBard" (82 : Nat) ({ cls := "NobodysBard$Own", name := "<init>", desc := "()V" } : Jvm.MethodName) "NobodysBard") ∈ lw_tbl := lw_at lw_m1 196 rfl
theorem q304 : (Jvm.Cond.classLink "NobodysBard" (2 : Nat) "NobodysBard$Phrase") ∈ lw_all := lw_g (lw_at lw_m1 201 rfl) rfl
theorem q306 : (Jvm.Cond.classLink "NobodysBard" (102 : Nat) "NobodysBard$Row") ∈ lw_all := lw_g (lw_at lw_m1 203 rfl) rfl
theorem q309 : (Jvm.Cond.methodLinkNest "NobodysBard" (104 : Nat) ({ cls := "NobodysBard$Row", name := "<init>", desc := "()V" } : Jvm.MethodName) "NobodysBard") ∈ lw_tbl := lw_at lw_m1 206 rfl
theorem q314 : (Jvm.Cond.fieldLinkNest "NobodysBard" (513 : Nat) "NobodysBard$Row" "held" "Ljava/lang/Object;" "NobodysBard") ∈ lw_tbl := lw_at lw_m1 211 rfl
theorem q318 : (Jvm.Cond.fieldLink "NobodysBard" (17 : Nat) "NobodysBard" "common" "[I") ∈ lw_all := lw_g (lw_at lw_m1 215 rfl) rfl
theorem q319 : (Jvm.Cond.fieldLink "NobodysBard" (26 : Nat) "NobodysBard" "s" "LNobodysBard$State;") ∈ lw_all := lw_g (lw_at lw_m1 216 rfl) rfl
theorem q320 : (Jvm.Cond.fieldLink "NobodysBard" (59 : Nat) "NobodysBard" "images" "[LNobodysBard$State;") ∈ lw_all := lw_g (lw_at lw_m1 217 rfl) rfl
theorem q321 : (Jvm.Cond.fieldLink "NobodysBard" (63 : Nat) "NobodysBard" "refused" "[I") ∈ lw_all := lw_g (lw_at lw_m1 218 rfl) rfl
theorem q323 : (Jvm.Cond.fieldLink "NobodysBard" (66 : Nat) "NobodysBard" "tape" "[B") ∈ lw_all := lw_g (lw_at lw_m1 220 rfl) rfl
theorem q324 : (Jvm.Cond.fieldLink "NobodysBard" (222 : Nat) "NobodysBard" "taped" "I") ∈ lw_all := lw_g (lw_at lw_m1 221 rfl) rfl
theorem q325 : (Jvm.Cond.fieldLink "NobodysBard" (243 : Nat) "NobodysBard" "faultKind" "I") ∈ lw_all := lw_g (lw_at lw_m1 222 rfl) rfl
theorem q326 : (Jvm.Cond.fieldLink "NobodysBard" (70 : Nat) "NobodysBard" "faultPlace" "I") ∈ lw_all := lw_g (lw_at lw_m1 223 rfl) rfl
theorem q327 : (Jvm.Cond.fieldLink "NobodysBard" (263 : Nat) "NobodysBard" "x" "I") ∈ lw_all := lw_g (lw_at lw_m1 224 rfl) rfl
theorem q328 : (Jvm.Cond.fieldLink "NobodysBard" (76 : Nat) "NobodysBard" "mayBe" "LNobodysBard$Comes;") ∈ lw_all := lw_g (lw_at lw_m1 225 rfl) rfl
theorem q329 : (Jvm.Cond.fieldLink "NobodysBard" (83 : Nat) "NobodysBard" "own" "LNobodysBard$Comes;") ∈ lw_all := lw_g (lw_at lw_m1 226 rfl) rfl
theorem q330 : (Jvm.Cond.fieldLink "NobodysBard" (307 : Nat) "NobodysBard" "most" "I") ∈ lw_all := lw_g (lw_at lw_m1 227 rfl) rfl
theorem q331 : (Jvm.Cond.fieldLink "NobodysBard" (310 : Nat) "NobodysBard" "mostOwner" "I") ∈ lw_all := lw_g (lw_at lw_m1 228 rfl) rfl
theorem q332 : (Jvm.Cond.fieldLink "NobodysBard" (313 : Nat) "NobodysBard" "mostLine" "I") ∈ lw_all := lw_g (lw_at lw_m1 229 rfl) rfl
theorem q333 : (Jvm.Cond.fieldLink "NobodysBard" (86 : Nat) "NobodysBard" "smooth" "[LNobodysBard$Phrase;") ∈ lw_all := lw_g (lw_at lw_m1 230 rfl) rfl
theorem q334 : (Jvm.Cond.fieldLink "NobodysBard" (90 : Nat) "NobodysBard" "bookSmooth" "[LNobodysBard$Phrase;") ∈ lw_all := lw_g (lw_at lw_m1 231 rfl) rfl
theorem q335 : (Jvm.Cond.fieldLink "NobodysBard" (141 : Nat) "NobodysBard" "isSmooth" "Z") ∈ lw_all := lw_g (lw_at lw_m1 232 rfl) rfl
theorem q336 : (Jvm.Cond.fieldLink "NobodysBard" (93 : Nat) "NobodysBard" "kinds" "[I") ∈ lw_all := lw_g (lw_at lw_m1 233 rfl) rfl
theorem q337 : (Jvm.Cond.fieldLink "NobodysBard" (367 : Nat) "NobodysBard" "pairs" "I") ∈ lw_all := lw_g (lw_at lw_m1 234 rfl) rfl
theorem q338 : (Jvm.Cond.fieldLink "NobodysBard" (370 : Nat) "NobodysBard" "likes" "I") ∈ lw_all := lw_g (lw_at lw_m1 235 rfl) rfl
theorem q339 : (Jvm.Cond.fieldLink "NobodysBard" (96 : Nat) "NobodysBard" "cost" "[I") ∈ lw_all := lw_g (lw_at lw_m1 236 rfl) rfl
theorem q340 : (Jvm.Cond.fieldLink "NobodysBard" (99 : Nat) "NobodysBard" "asked" "[I") ∈ lw_all := lw_g (lw_at lw_m1 237 rfl) rfl
theorem q341 : (Jvm.Cond.fieldLink "NobodysBard" (105 : Nat) "NobodysBard" "rows" "[LNobodysBard$Row;") ∈ lw_all := lw_g (lw_at lw_m1 238 rfl) rfl
theorem q342 : (Jvm.Cond.laysFinal "NobodysBard" "NobodysBard" "common" "[I") ∈ lw_all := lw_g (lw_at lw_m1 239 rfl) rfl
theorem q343 : (Jvm.Cond.soleField "NobodysBard" "common") ∈ lw_all := lw_g (lw_at lw_m2 0 rfl) rfl
theorem q344 : (Jvm.Cond.lays "NobodysBard" "NobodysBard" "s" "LNobodysBard$State;") ∈ lw_all := lw_g (lw_at lw_m2 1 rfl) rfl
theorem q345 : (Jvm.Cond.soleField "NobodysBard" "s") ∈ lw_all := lw_g (lw_at lw_m2 2 rfl) rfl
theorem q346 : (Jvm.Cond.laysFinal "NobodysBard" "NobodysBard" "images" "[LNobodysBard$State;") ∈ lw_all := lw_g (lw_at lw_m2 3 rfl) rfl
theorem q347 : (Jvm.Cond.soleField "NobodysBard" "images") ∈ lw_all := lw_g (lw_at lw_m2 4 rfl) rfl
theorem q348 : (Jvm.Cond.laysFinal "NobodysBard" "NobodysBard" "refused" "[I") ∈ lw_all := lw_g (lw_at lw_m2 5 rfl) rfl
theorem q349 : (Jvm.Cond.soleField "NobodysBard" "refused") ∈ lw_all := lw_g (lw_at lw_m2 6 rfl) rfl
theorem q350 : (Jvm.Cond.laysFinal "NobodysBard" "NobodysBard" "tape" "[B") ∈ lw_all := lw_g (lw_at lw_m2 7 rfl) rfl
theorem q351 : (Jvm.Cond.soleField "NobodysBard" "tape") ∈ lw_all := lw_g (lw_at lw_m2 8 rfl) rfl
theorem q352 : (Jvm.Cond.lays "NobodysBard" "NobodysBard" "taped" "I") ∈ lw_all := lw_g (lw_at lw_m2 9 rfl) rfl
theorem q353 : (Jvm.Cond.soleField "NobodysBard" "taped") ∈ lw_all := lw_g (lw_at lw_m2 10 rfl) rfl
theorem q354 : (Jvm.Cond.lays "NobodysBard" "NobodysBard" "faultKind" "I") ∈ lw_all := lw_g (lw_at lw_m2 11 rfl) rfl
theorem q355 : (Jvm.Cond.soleField "NobodysBard" "faultKind") ∈ lw_all := lw_g (lw_at lw_m2 12 rfl) rfl
theorem q356 : (Jvm.Cond.lays "NobodysBard" "NobodysBard" "faultPlace" "I") ∈ lw_all := lw_g (lw_at lw_m2 13 rfl) rfl
theorem q357 : (Jvm.Cond.soleField "NobodysBard" "faultPlace") ∈ lw_all := lw_g (lw_at lw_m2 14 rfl) rfl
theorem q358 : (Jvm.Cond.lays "NobodysBard" "NobodysBard" "x" "I") ∈ lw_all := lw_g (lw_at lw_m2 15 rfl) rfl
theorem q359 : (Jvm.Cond.soleField "NobodysBard" "x") ∈ lw_all := lw_g (lw_at lw_m2 16 rfl) rfl
theorem q360 : (Jvm.Cond.laysFinal "NobodysBard" "NobodysBard" "mayBe" "LNobodysBard$Comes;") ∈ lw_all := lw_g (lw_at lw_m2 17 rfl) rfl
theorem q361 : (Jvm.Cond.soleField "NobodysBard" "mayBe") ∈ lw_all := lw_g (lw_at lw_m2 18 rfl) rfl
theorem q362 : (Jvm.Cond.laysFinal "NobodysBard" "NobodysBard" "own" "LNobodysBard$Comes;") ∈ lw_all := lw_g (lw_at lw_m2 19 rfl) rfl
theorem q363 : (Jvm.Cond.soleField "NobodysBard" "own") ∈ lw_all := lw_g (lw_at lw_m2 20 rfl) rfl
theorem q364 : (Jvm.Cond.lays "NobodysBard" "NobodysBard" "most" "I") ∈ lw_all := lw_g (lw_at lw_m2 21 rfl) rfl
theorem q365 : (Jvm.Cond.soleField "NobodysBard" "most") ∈ lw_all := lw_g (lw_at lw_m2 22 rfl) rfl
theorem q366 : (Jvm.Cond.lays "NobodysBard" "NobodysBard" "mostOwner" "I") ∈ lw_all := lw_g (lw_at lw_m2 23 rfl) rfl
theorem q367 : (Jvm.Cond.soleField "NobodysBard" "mostOwner") ∈ lw_all := lw_g (lw_at lw_m2 24 rfl) rfl
theorem q368 : (Jvm.Cond.lays "NobodysBard" "NobodysBard" "mostLine" "I") ∈ lw_all := lw_g (lw_at lw_m2 25 rfl) rfl
theorem q369 : (Jvm.Cond.soleField "NobodysBard" "mostLine") ∈ lw_all := lw_g (lw_at lw_m2 26 rfl) rfl
theorem q370 : (Jvm.Cond.laysFinal "NobodysBard" "NobodysBard" "smooth" "[LNobodysBard$Phrase;") ∈ lw_all := lw_g (lw_at lw_m2 27 rfl) rfl
theorem q371 : (Jvm.Cond.soleField "NobodysBard" "smooth") ∈ lw_all := lw_g (lw_at lw_m2 28 rfl) rfl
theorem q372 : (Jvm.Cond.laysFinal "NobodysBard" "NobodysBard" "bookSmooth" "[LNobodysBard$Phrase;") ∈ lw_all := lw_g (lw_at lw_m2 29 rfl) rfl
theorem q373 : (Jvm.Cond.soleField "NobodysBard" "bookSmooth") ∈ lw_all := lw_g (lw_at lw_m2 30 rfl) rfl
theorem q374 : (Jvm.Cond.lays "NobodysBard" "NobodysBard" "isSmooth" "Z") ∈ lw_all := lw_g (lw_at lw_m2 31 rfl) rfl
theorem q375 : (Jvm.Cond.soleField "NobodysBard" "isSmooth") ∈ lw_all := lw_g (lw_at lw_m2 32 rfl) rfl
theorem q376 : (Jvm.Cond.laysFinal "NobodysBard" "NobodysBard" "kinds" "[I") ∈ lw_all := lw_g (lw_at lw_m2 33 rfl) rfl
theorem q377 : (Jvm.Cond.soleField "NobodysBard" "kinds") ∈ lw_all := lw_g (lw_at lw_m2 34 rfl) rfl
theorem q378 : (Jvm.Cond.lays "NobodysBard" "NobodysBard" "pairs" "I") ∈ lw_all := lw_g (lw_at lw_m2 35 rfl) rfl
theorem q379 : (Jvm.Cond.soleField "NobodysBard" "pairs") ∈ lw_all := lw_g (lw_at lw_m2 36 rfl) rfl
theorem q380 : (Jvm.Cond.lays "NobodysBard" "NobodysBard" "likes" "I") ∈ lw_all := lw_g (lw_at lw_m2 37 rfl) rfl
theorem q381 : (Jvm.Cond.soleField "NobodysBard" "likes") ∈ lw_all := lw_g (lw_at lw_m2 38 rfl) rfl
theorem q382 : (Jvm.Cond.laysFinal "NobodysBard" "NobodysBard" "cost" "[I") ∈ lw_all := lw_g (lw_at lw_m2 39 rfl) rfl
theorem q383 : (Jvm.Cond.soleField "NobodysBard" "cost") ∈ lw_all := lw_g (lw_at lw_m2 40 rfl) rfl
theorem q384 : (Jvm.Cond.laysFinal "NobodysBard" "NobodysBard" "asked" "[I") ∈ lw_all := lw_g (lw_at lw_m2 41 rfl) rfl
theorem q385 : (Jvm.Cond.soleField "NobodysBard" "asked") ∈ lw_all := lw_g (lw_at lw_m2 42 rfl) rfl
theorem q386 : (Jvm.Cond.laysFinal "NobodysBard" "NobodysBard" "rows" "[LNobodysBard$Row;") ∈ lw_all := lw_g (lw_at lw_m2 43 rfl) rfl
theorem q387 : (Jvm.Cond.soleField "NobodysBard" "rows") ∈ lw_all := lw_g (lw_at lw_m2 44 rfl) rfl
theorem q388 : (Jvm.Cond.superclass "NobodysBard" "java/lang/Object") ∈ lw_all := lw_g (lw_at lw_m2 45 rfl) rfl
theorem q390 : (Jvm.Cond.instanceMethod ({ cls := "NobodysBard", name := "open", desc := "(IIII)I" } : Jvm.MethodName)) ∈ lw_all := lw_g (lw_at lw_m2 47 rfl) rfl
theorem q391 : (Jvm.Cond.selects "NobodysBard" ({ cls := "NobodysBard", name := "open", desc := "(IIII)I" } : Jvm.MethodName) ({ cls := "NobodysBard", name := "open", desc := "(IIII)I" } : Jvm.MethodName)) ∈ lw_all := lw_g (lw_at lw_m2 48 rfl) rfl
theorem q392 : (Jvm.Cond.code ({ cls := "NobodysBard", name := "open", desc := "(IIII)I" } : Jvm.MethodName) prog_1_method_11_code (6 : Nat) (Option.some Jvm.ClassFile.FieldType.int)) ∈ lw_all := lw_g (lw_at lw_m2 49 rfl) rfl
theorem q393 : (Jvm.Cond.methodLink "NobodysBard" (111 : Nat) ({ cls := "NobodysBard", name := "in", desc := "(JJJ)Z" } : Jvm.MethodName)) ∈ lw_all := lw_g (lw_at lw_m2 50 rfl) rfl
theorem q394 : (Jvm.Cond.static ({ cls := "NobodysBard", name := "in", desc := "(JJJ)Z" } : Jvm.MethodName)) ∈ lw_all := lw_g (lw_at lw_m2 51 rfl) rfl
theorem q395 : (Jvm.Cond.code ({ cls := "NobodysBard", name := "in", desc := "(JJJ)Z" } : Jvm.MethodName) prog_1_method_1_code (6 : Nat) (Option.some Jvm.ClassFile.FieldType.boolean)) ∈ lw_all := lw_g (lw_at lw_m2 52 rfl) rfl
theorem q396 : (Jvm.Cond.methodLink "NobodysBard" (119 : Nat) ({ cls := "NobodysBard", name := "refuse", desc := "(I)I" } : Jvm.MethodName)) ∈ lw_all := lw_g (lw_at lw_m2 53 rfl) rfl
theorem q397 : (Jvm.Cond.privateMethod ({ cls := "NobodysBard", name := "refuse", desc := "(I)I" } : Jvm.MethodName)) ∈ lw_tbl := lw_at lw_m2 54 rfl
theorem q398 : (Jvm.Cond.instanceMethod ({ cls := "NobodysBard", name := "refuse", desc := "(I)I" } : Jvm.MethodName)) ∈ lw_all := lw_g (lw_at lw_m2 55 rfl) rfl
theorem q399 : (Jvm.Cond.code ({ cls := "NobodysBard", name := "refuse", desc := "(I)I" } : Jvm.MethodName) prog_1_method_6_code (2 : Nat) (Option.some Jvm.ClassFile.FieldType.int)) ∈ lw_all := lw_g (lw_at lw_m2 56 rfl) rfl
theorem q400 : (Jvm.Cond.methodLink "NobodysBard" (123 : Nat) ({ cls := "NobodysBard", name := "isTale", desc := "(I)Z" } : Jvm.MethodName)) ∈ lw_all := lw_g (lw_at lw_m2 57 rfl) rfl
theorem q401 : (Jvm.Cond.static ({ cls := "NobodysBard", name := "isTale", desc := "(I)Z" } : Jvm.MethodName)) ∈ lw_all := lw_g (lw_at lw_m2 58 rfl) rfl
theorem q402 : (Jvm.Cond.code ({ cls := "NobodysBard", name := "isTale", desc := "(I)Z" } : Jvm.MethodName) prog_1_method_7_code (1 : Nat) (Option.some Jvm.ClassFile.FieldType.boolean)) ∈ lw_all := lw_g (lw_at lw_m2 59 rfl) rfl
theorem q403 : (Jvm.Cond.constantLong "NobodysBard" (109 : Nat) (9 : Int64)) ∈ lw_all := lw_g (lw_at lw_m2 60 rfl) rfl
theorem q404 : (Jvm.Cond.methodLink "NobodysBard" (127 : Nat) ({ cls := "NobodysBard", name := "isGlen", desc := "(I)Z" } : Jvm.MethodName)) ∈ lw_all := lw_g (lw_at lw_m2 61 rfl) rfl
theorem q405 : (Jvm.Cond.static ({ cls := "NobodysBard", name := "isGlen", desc := "(I)Z" } : Jvm.MethodName)) ∈ lw_all := lw_g (lw_at lw_m2 62 rfl) rfl
theorem q406 : (Jvm.Cond.code ({ cls := "NobodysBard", name := "isGlen", desc := "(I)Z" } : Jvm.MethodName) prog_1_method_9_code (1 : Nat) (Option.some Jvm.ClassFile.FieldType.boolean)) ∈ lw_all := lw_g (lw_at lw_m2 63 rfl) rfl
theorem q407 : (Jvm.Cond.constantLong "NobodysBard" (117 : Nat) (15 : Int64)) ∈ lw_all := lw_g (lw_at lw_m2 64 rfl) rfl
theorem q408 : (Jvm.Cond.methodLink "NobodysBard" (130 : Nat) ({ cls := "NobodysBard", name := "isDay", desc := "(I)Z" } : Jvm.MethodName)) ∈ lw_all := lw_g (lw_at lw_m2 65 rfl) rfl
theorem q409 : (Jvm.Cond.static ({ cls := "NobodysBard", name := "isDay", desc := "(I)Z" } : Jvm.MethodName)) ∈ lw_all := lw_g (lw_at lw_m2 66 rfl) rfl
theorem q410 : (Jvm.Cond.code ({ cls := "NobodysBard", name := "isDay", desc := "(I)Z" } : Jvm.MethodName) prog_1_method_8_code (1 : Nat) (Option.some Jvm.ClassFile.FieldType.boolean)) ∈ lw_all := lw_g (lw_at lw_m2 67 rfl) rfl
theorem q411 : (Jvm.Cond.constantLong "NobodysBard" (115 : Nat) (9999 : Int64)) ∈ lw_all := lw_g (lw_at lw_m2 68 rfl) rfl
theorem q412 : (Jvm.Cond.constantLong "NobodysBard" (133 : Nat) (5 : Int64)) ∈ lw_all := lw_g (lw_at lw_m2 69 rfl) rfl
theorem q413 : (Jvm.Cond.methodLink "NobodysBard" (36 : Nat) ({ cls := "java/util/ArrayList", name := "size", desc := "()I" } : Jvm.MethodName)) ∈ lw_all := lw_g (lw_at lw_m2 70 rfl) rfl
theorem q417 : (Jvm.Cond.classLink "NobodysBard" (145 : Nat) "NobodysBard$Owner") ∈ lw_all := lw_g (lw_at lw_m2 74 rfl) rfl
theorem q419 : (Jvm.Cond.methodLink "NobodysBard" (147 : Nat) ({ cls := "NobodysBard$Owner", name := "<init>", desc := "(IIII)V" } : Jvm.MethodName)) ∈ lw_all := lw_g (lw_at lw_m2 76 rfl) rfl
theorem q426 : (Jvm.Cond.fieldLinkNest "NobodysBard" (373 : Nat) "NobodysBard$Owner" "sort" "I" "NobodysBard") ∈ lw_tbl := lw_at lw_m2 83 rfl
theorem q428 : (Jvm.Cond.fieldLinkNest "NobodysBard" (273 : Nat) "NobodysBard$Owner" "tale" "I" "NobodysBard") ∈ lw_tbl := lw_at lw_m2 85 rfl
theorem q431 : (Jvm.Cond.fieldLinkNest "NobodysBard" (300 : Nat) "NobodysBard$Owner" "day" "I" "NobodysBard") ∈ lw_tbl := lw_at lw_m2 88 rfl
theorem q433 : (Jvm.Cond.fieldLinkNest "NobodysBard" (178 : Nat) "NobodysBard$Owner" "lines" "Ljava/util/ArrayList;" "NobodysBard") ∈ lw_tbl := lw_at lw_m2 90 rfl
theorem q445 : (Jvm.Cond.methodLink "NobodysBard" (150 : Nat) ({ cls := "java/util/ArrayList", name := "add", desc := "(Ljava/lang/Object;)Z" } : Jvm.MethodName)) ∈ lw_all := lw_g (lw_at lw_m2 102 rfl) rfl
theorem q479 : (Jvm.Cond.selects "NobodysBard" ({ cls := "java/lang/Object", name := "getClass", desc := "()Ljava/lang/Class;" } : Jvm.MethodName) ({ cls := "java/lang/Object", name := "getClass", desc := "()Ljava/lang/Class;" } : Jvm.MethodName)) ∈ lw_all := lw_g (lw_at lw_m2 136 rfl) rfl
theorem q521 : (Jvm.Cond.instanceMethod ({ cls := "NobodysBard", name := "line", desc := "(IIIJ)I" } : Jvm.MethodName)) ∈ lw_all := lw_g (lw_at lw_m2 178 rfl) rfl
theorem q522 : (Jvm.Cond.selects "NobodysBard" ({ cls := "NobodysBard", name := "line", desc := "(IIIJ)I" } : Jvm.MethodName) ({ cls := "NobodysBard", name := "line", desc := "(IIIJ)I" } : Jvm.MethodName)) ∈ lw_all := lw_g (lw_at lw_m2 179 rfl) rfl
theorem q523 : (Jvm.Cond.code ({ cls := "NobodysBard", name := "line", desc := "(IIIJ)I" } : Jvm.MethodName) prog_1_method_15_code (8 : Nat) (Option.some Jvm.ClassFile.FieldType.int)) ∈ lw_all := lw_g (lw_at lw_m2 180 rfl) rfl
theorem q524 : (Jvm.Cond.constantLong "NobodysBard" (157 : Nat) (2 : Int64)) ∈ lw_all := lw_g (lw_at lw_m2 181 rfl) rfl
theorem q525 : (Jvm.Cond.methodLink "NobodysBard" (159 : Nat) ({ cls := "NobodysBard", name := "isSong", desc := "(I)Z" } : Jvm.MethodName)) ∈ lw_all := lw_g (lw_at lw_m2 182 rfl) rfl
theorem q526 : (Jvm.Cond.privateMethod ({ cls := "NobodysBard", name := "isSong", desc := "(I)Z" } : Jvm.MethodName)) ∈ lw_tbl := lw_at lw_m2 183 rfl
theorem q527 : (Jvm.Cond.instanceMethod ({ cls := "NobodysBard", name := "isSong", desc := "(I)Z" } : Jvm.MethodName)) ∈ lw_all := lw_g (lw_at lw_m2 184 rfl) rfl
theorem q528 : (Jvm.Cond.code ({ cls := "NobodysBard", name := "isSong", desc := "(I)Z" } : Jvm.MethodName) prog_1_method_12_code (2 : Nat) (Option.some Jvm.ClassFile.FieldType.boolean)) ∈ lw_all := lw_g (lw_at lw_m2 185 rfl) rfl
theorem q529 : (Jvm.Cond.methodLink "NobodysBard" (162 : Nat) ({ cls := "NobodysBard", name := "isBook", desc := "(I)Z" } : Jvm.MethodName)) ∈ lw_all := lw_g (lw_at lw_m2 186 rfl) rfl
theorem q530 : (Jvm.Cond.privateMethod ({ cls := "NobodysBard", name := "isBook", desc := "(I)Z" } : Jvm.MethodName)) ∈ lw_tbl := lw_at lw_m2 187 rfl
theorem q531 : (Jvm.Cond.instanceMethod ({ cls := "NobodysBard", name := "isBook", desc := "(I)Z" } : Jvm.MethodName)) ∈ lw_all := lw_g (lw_at lw_m2 188 rfl) rfl
theorem q532 : (Jvm.Cond.code ({ cls := "NobodysBard", name := "isBook", desc := "(I)Z" } : Jvm.MethodName) prog_1_method_13_code (2 : Nat) (Option.some Jvm.ClassFile.FieldType.boolean)) ∈ lw_all := lw_g (lw_at lw_m2 189 rfl) rfl
theorem q533 : (Jvm.Cond.methodLink "NobodysBard" (165 : Nat) ({ cls := "NobodysBard", name := "hasWords", desc := "(J)Z" } : Jvm.MethodName)) ∈ lw_all := lw_g (lw_at lw_m2 190 rfl) rfl
theorem q534 : (Jvm.Cond.static ({ cls := "NobodysBard", name := "hasWords", desc := "(J)Z" } : Jvm.MethodName)) ∈ lw_all := lw_g (lw_at lw_m2 191 rfl) rfl
theorem q535 : (Jvm.Cond.code ({ cls := "NobodysBard", name := "hasWords", desc := "(J)Z" } : Jvm.MethodName) prog_1_method_10_code (2 : Nat) (Option.some Jvm.ClassFile.FieldType.boolean)) ∈ lw_all := lw_g (lw_at lw_m2 192 rfl) rfl
theorem q536 : (Jvm.Cond.methodLink "NobodysBard" (169 : Nat) ({ cls := "NobodysBard$Phrase", name := "of", desc := "(J)LNobodysBard$Phrase;" } : Jvm.MethodName)) ∈ lw_all := lw_g (lw_at lw_m2 193 rfl) rfl
theorem q547 : (Jvm.Cond.fieldLinkNest "NobodysBard" (7 : Nat) "NobodysBard$Phrase" "w" "[I" "NobodysBard") ∈ lw_tbl := lw_at lw_m2 204 rfl
theorem q548 : (Jvm.Cond.fieldLinkNest "NobodysBard" (1 : Nat) "NobodysBard$Phrase" "n" "I" "NobodysBard") ∈ lw_tbl := lw_at lw_m2 205 rfl
theorem q562 : (Jvm.Cond.classLink "NobodysBard" (173 : Nat) "NobodysBard$Printed") ∈ lw_all := lw_g (lw_at lw_m2 219 rfl) rfl
theorem q564 : (Jvm.Cond.methodLink "NobodysBard" (175 : Nat) ({ cls := "NobodysBard$Printed", name := "<init>", desc := "(LNobodysBard$Phrase;I)V" } : Jvm.MethodName)) ∈ lw_all := lw_g (lw_at lw_m2 221 rfl) rfl
theorem q569 : (Jvm.Cond.fieldLinkNest "NobodysBard" (195 : Nat) "NobodysBard$Printed" "line" "LNobodysBard$Phrase;" "NobodysBard") ∈ lw_tbl := lw_at lw_m2 226 rfl
theorem q571 : (Jvm.Cond.fieldLinkNest "NobodysBard" (320 : Nat) "NobodysBard$Printed" "tale" "I" "NobodysBard") ∈ lw_tbl := lw_at lw_m2 228 rfl
theorem q577 : (Jvm.Cond.methodLink "NobodysBard" (42 : Nat) ({ cls := "java/util/ArrayList", name := "get", desc := "(I)Ljava/lang/Object;" } : Jvm.MethodName)) ∈ lw_all := lw_g (lw_at lw_m2 234 rfl) rfl
theorem q592 : (Jvm.Cond.instanceMethod ({ cls := "NobodysBard", name := "print", desc := "(I)I" } : Jvm.MethodName)) ∈ lw_all := lw_g (lw_at lw_m3 9 rfl) rfl
theorem q593 : (Jvm.Cond.selects "NobodysBard" ({ cls := "NobodysBard", name := "print", desc := "(I)I" } : Jvm.MethodName) ({ cls := "NobodysBard", name := "print", desc := "(I)I" } : Jvm.MethodName)) ∈ lw_all := lw_g (lw_at lw_m3 10 rfl) rfl
theorem q594 : (Jvm.Cond.code ({ cls := "NobodysBard", name := "print", desc := "(I)I" } : Jvm.MethodName) prog_1_method_16_code (3 : Nat) (Option.some Jvm.ClassFile.FieldType.int)) ∈ lw_all := lw_g (lw_at lw_m3 11 rfl) rfl
theorem q596 : (Jvm.Cond.instanceMethod ({ cls := "NobodysBard", name := "bounds", desc := "(II)I" } : Jvm.MethodName)) ∈ lw_all := lw_g (lw_at lw_m3 13 rfl) rfl
theorem q597 : (Jvm.Cond.selects "NobodysBard" ({ cls := "NobodysBard", name := "bounds", desc := "(II)I" } : Jvm.MethodName) ({ cls := "NobodysBard", name := "bounds", desc := "(II)I" } : Jvm.MethodName)) ∈ lw_all := lw_g (lw_at lw_m3 14 rfl) rfl
theorem q598 : (Jvm.Cond.code ({ cls := "NobodysBard", name := "bounds", desc := "(II)I" } : Jvm.MethodName) prog_1_method_17_code (3 : Nat) (Option.some Jvm.ClassFile.FieldType.int)) ∈ lw_all := lw_g (lw_at lw_m3 15 rfl) rfl
theorem q599 : (Jvm.Cond.constantLong "NobodysBard" (184 : Nat) (100 : Int64)) ∈ lw_all := lw_g (lw_at lw_m3 16 rfl) rfl
theorem q601 : (Jvm.Cond.instanceMethod ({ cls := "NobodysBard", name := "words", desc := "(III)J" } : Jvm.MethodName)) ∈ lw_all := lw_g (lw_at lw_m3 18 rfl) rfl
theorem q602 : (Jvm.Cond.selects "NobodysBard" ({ cls := "NobodysBard", name := "words", desc := "(III)J" } : Jvm.MethodName) ({ cls := "NobodysBard", name := "words", desc := "(III)J" } : Jvm.MethodName)) ∈ lw_all := lw_g (lw_at lw_m3 19 rfl) rfl
theorem q603 : (Jvm.Cond.code ({ cls := "NobodysBard", name := "words", desc := "(III)J" } : Jvm.MethodName) prog_1_method_19_code (5 : Nat) (Option.some Jvm.ClassFile.FieldType.long)) ∈ lw_all := lw_g (lw_at lw_m3 20 rfl) rfl
theorem q604 : (Jvm.Cond.methodLink "NobodysBard" (210 : Nat) ({ cls := "NobodysBard", name := "lineAt", desc := "(III)LNobodysBard$Phrase;" } : Jvm.MethodName)) ∈ lw_all := lw_g (lw_at lw_m3 21 rfl) rfl
theorem q605 : (Jvm.Cond.privateMethod ({ cls := "NobodysBard", name := "lineAt", desc := "(III)LNobodysBard$Phrase;" } : Jvm.MethodName)) ∈ lw_tbl := lw_at lw_m3 22 rfl
theorem q606 : (Jvm.Cond.instanceMethod ({ cls := "NobodysBard", name := "lineAt", desc := "(III)LNobodysBard$Phrase;" } : Jvm.MethodName)) ∈ lw_all := lw_g (lw_at lw_m3 23 rfl) rfl
theorem q607 : (Jvm.Cond.code ({ cls := "NobodysBard", name := "lineAt", desc := "(III)LNobodysBard$Phrase;" } : Jvm.MethodName) prog_1_method_18_code (4 : Nat) (Option.some (Jvm.ClassFile.FieldType.object "NobodysBard$Phrase"))) ∈ lw_all := lw_g (lw_at lw_m3 24 rfl) rfl
theorem q608 : (Jvm.Cond.methodLink "NobodysBard" (192 : Nat) ({ cls := "NobodysBard", name := "isPrinted", desc := "(I)Z" } : Jvm.MethodName)) ∈ lw_all := lw_g (lw_at lw_m3 25 rfl) rfl
theorem q609 : (Jvm.Cond.privateMethod ({ cls := "NobodysBard", name := "isPrinted", desc := "(I)Z" } : Jvm.MethodName)) ∈ lw_tbl := lw_at lw_m3 26 rfl
theorem q610 : (Jvm.Cond.instanceMethod ({ cls := "NobodysBard", name := "isPrinted", desc := "(I)Z" } : Jvm.MethodName)) ∈ lw_all := lw_g (lw_at lw_m3 27 rfl) rfl
theorem q611 : (Jvm.Cond.code ({ cls := "NobodysBard", name := "isPrinted", desc := "(I)Z" } : Jvm.MethodName) prog_1_method_14_code (2 : Nat) (Option.some Jvm.ClassFile.FieldType.boolean)) ∈ lw_all := lw_g (lw_at lw_m3 28 rfl) rfl
theorem q612 : (Jvm.Cond.classLink "NobodysBard" (202 : Nat) "NobodysBard$Version") ∈ lw_all := lw_g (lw_at lw_m3 29 rfl) rfl
theorem q613 : (Jvm.Cond.methodLink "NobodysBard" (214 : Nat) ({ cls := "NobodysBard$Phrase", name := "told", desc := "()J" } : Jvm.MethodName)) ∈ lw_all := lw_g (lw_at lw_m3 30 rfl) rfl
theorem q618 : (Jvm.Cond.instanceMethod ({ cls := "NobodysBard", name := "like", desc := "(JJ)I" } : Jvm.MethodName)) ∈ lw_all := lw_g (lw_at lw_m3 35 rfl) rfl
theorem q619 : (Jvm.Cond.selects "NobodysBard" ({ cls := "NobodysBard", name := "like", desc := "(JJ)I" } : Jvm.MethodName) ({ cls := "NobodysBard", name := "like", desc := "(JJ)I" } : Jvm.MethodName)) ∈ lw_all := lw_g (lw_at lw_m3 36 rfl) rfl
theorem q620 : (Jvm.Cond.code ({ cls := "NobodysBard", name := "like", desc := "(JJ)I" } : Jvm.MethodName) prog_1_method_20_code (5 : Nat) (Option.some Jvm.ClassFile.FieldType.int)) ∈ lw_all := lw_g (lw_at lw_m3 37 rfl) rfl
theorem q621 : (Jvm.Cond.methodLink "NobodysBard" (218 : Nat) ({ cls := "NobodysBard", name := "likeness", desc := "(LNobodysBard$Phrase;LNobodysBard$Phrase;)I" } : Jvm.MethodName)) ∈ lw_all := lw_g (lw_at lw_m3 38 rfl) rfl
theorem q622 : (Jvm.Cond.privateMethod ({ cls := "NobodysBard", name := "likeness", desc := "(LNobodysBard$Phrase;LNobodysBard$Phrase;)I" } : Jvm.MethodName)) ∈ lw_tbl := lw_at lw_m3 39 rfl
theorem q623 : (Jvm.Cond.instanceMethod ({ cls := "NobodysBard", name := "likeness", desc := "(LNobodysBard$Phrase;LNobodysBard$Phrase;)I" } : Jvm.MethodName)) ∈ lw_all := lw_g (lw_at lw_m3 40 rfl) rfl
theorem q624 : (Jvm.Cond.code ({ cls := "NobodysBard", name := "likeness", desc := "(LNobodysBard$Phrase;LNobodysBard$Phrase;)I" } : Jvm.MethodName) prog_1_method_2_code (7 : Nat) (Option.some Jvm.ClassFile.FieldType.int)) ∈ lw_all := lw_g (lw_at lw_m3 41 rfl) rfl
theorem q625 : (Jvm.Cond.methodLink "NobodysBard" (11 : Nat) ({ cls := "NobodysBard", name := "at", desc := "(LNobodysBard$Phrase;LNobodysBard$Phrase;II)I" } : Jvm.MethodName)) ∈ lw_all := lw_g (lw_at lw_m3 42 rfl) rfl
theorem q626 : (Jvm.Cond.privateMethod ({ cls := "NobodysBard", name := "at", desc := "(LNobodysBard$Phrase;LNobodysBard$Phrase;II)I" } : Jvm.MethodName)) ∈ lw_tbl := lw_at lw_m3 43 rfl
theorem q627 : (Jvm.Cond.instanceMethod ({ cls := "NobodysBard", name := "at", desc := "(LNobodysBard$Phrase;LNobodysBard$Phrase;II)I" } : Jvm.MethodName)) ∈ lw_all := lw_g (lw_at lw_m3 44 rfl) rfl
theorem q628 : (Jvm.Cond.code ({ cls := "NobodysBard", name := "at", desc := "(LNobodysBard$Phrase;LNobodysBard$Phrase;II)I" } : Jvm.MethodName) prog_1_method_3_code (5 : Nat) (Option.some Jvm.ClassFile.FieldType.int)) ∈ lw_all := lw_g (lw_at lw_m3 45 rfl) rfl
theorem q629 : (Jvm.Cond.methodLink "NobodysBard" (20 : Nat) ({ cls := "java/lang/Math", name := "max", desc := "(II)I" } : Jvm.MethodName)) ∈ lw_all := lw_g (lw_at lw_m3 46 rfl) rfl
theorem q631 : (Jvm.Cond.instanceMethod ({ cls := "NobodysBard", name := "feed", desc := "(IIIII)I" } : Jvm.MethodName)) ∈ lw_all := lw_g (lw_at lw_m3 48 rfl) rfl
theorem q632 : (Jvm.Cond.selects "NobodysBard" ({ cls := "NobodysBard", name := "feed", desc := "(IIIII)I" } : Jvm.MethodName) ({ cls := "NobodysBard", name := "feed", desc := "(IIIII)I" } : Jvm.MethodName)) ∈ lw_all := lw_g (lw_at lw_m3 49 rfl) rfl
theorem q633 : (Jvm.Cond.code ({ cls := "NobodysBard", name := "feed", desc := "(IIIII)I" } : Jvm.MethodName) prog_1_method_21_code (6 : Nat) (Option.some Jvm.ClassFile.FieldType.int)) ∈ lw_all := lw_g (lw_at lw_m3 50 rfl) rfl
theorem q634 : (Jvm.Cond.methodLink "NobodysBard" (225 : Nat) ({ cls := "NobodysBard", name := "bytes", desc := "(I)V" } : Jvm.MethodName)) ∈ lw_all := lw_g (lw_at lw_m3 51 rfl) rfl
theorem q635 : (Jvm.Cond.privateMethod ({ cls := "NobodysBard", name := "bytes", desc := "(I)V" } : Jvm.MethodName)) ∈ lw_tbl := lw_at lw_m3 52 rfl
theorem q636 : (Jvm.Cond.instanceMethod ({ cls := "NobodysBard", name := "bytes", desc := "(I)V" } : Jvm.MethodName)) ∈ lw_all := lw_g (lw_at lw_m3 53 rfl) rfl
theorem q637 : (Jvm.Cond.code ({ cls := "NobodysBard", name := "bytes", desc := "(I)V" } : Jvm.MethodName) prog_1_method_22_code (3 : Nat) (Option.none : Option Jvm.ClassFile.FieldType)) ∈ lw_all := lw_g (lw_at lw_m3 54 rfl) rfl
theorem q639 : (Jvm.Cond.instanceMethod ({ cls := "NobodysBard", name := "text", desc := "(II)I" } : Jvm.MethodName)) ∈ lw_all := lw_g (lw_at lw_m3 56 rfl) rfl
theorem q640 : (Jvm.Cond.selects "NobodysBard" ({ cls := "NobodysBard", name := "text", desc := "(II)I" } : Jvm.MethodName) ({ cls := "NobodysBard", name := "text", desc := "(II)I" } : Jvm.MethodName)) ∈ lw_all := lw_g (lw_at lw_m3 57 rfl) rfl
theorem q641 : (Jvm.Cond.code ({ cls := "NobodysBard", name := "text", desc := "(II)I" } : Jvm.MethodName) prog_1_method_23_code (4 : Nat) (Option.some Jvm.ClassFile.FieldType.int)) ∈ lw_all := lw_g (lw_at lw_m3 58 rfl) rfl
theorem q642 : (Jvm.Cond.classLink "NobodysBard" (229 : Nat) "NobodysBard$Reader") ∈ lw_all := lw_g (lw_at lw_m3 59 rfl) rfl
theorem q644 : (Jvm.Cond.methodLink "NobodysBard" (231 : Nat) ({ cls := "NobodysBard$Reader", name := "<init>", desc := "(LNobodysBard;I)V" } : Jvm.MethodName)) ∈ lw_all := lw_g (lw_at lw_m3 61 rfl) rfl
theorem q654 : (Jvm.Cond.fieldLinkNest "NobodysBard" (249 : Nat) "NobodysBard$Reader" "rules" "Ljava/util/ArrayList;" "NobodysBard") ∈ lw_tbl := lw_at lw_m3 71 rfl
theorem q656 : (Jvm.Cond.fieldLinkNest "NobodysBard" (250 : Nat) "NobodysBard$Reader" "law" "LNobodysBard$Law;" "NobodysBard") ∈ lw_tbl := lw_at lw_m3 73 rfl
theorem q663 : (Jvm.Cond.fieldLinkNest "NobodysBard" (240 : Nat) "NobodysBard$Reader" "fault" "I" "NobodysBard") ∈ lw_tbl := lw_at lw_m3 80 rfl
theorem q665 : (Jvm.Cond.fieldLinkNest "NobodysBard" (246 : Nat) "NobodysBard$Reader" "place" "I" "NobodysBard") ∈ lw_tbl := lw_at lw_m3 82 rfl
theorem q690 : (Jvm.Cond.methodLink "NobodysBard" (234 : Nat) ({ cls := "NobodysBard$Reader", name := "fashion", desc := "()V" } : Jvm.MethodName)) ∈ lw_all := lw_g (lw_at lw_m3 107 rfl) rfl
theorem q890 : (Jvm.Cond.methodLink "NobodysBard" (237 : Nat) ({ cls := "NobodysBard$Reader", name := "law", desc := "()V" } : Jvm.MethodName)) ∈ lw_all := lw_g (lw_at lw_m4 67 rfl) rfl
theorem q904 : (Jvm.Cond.instanceMethod ({ cls := "NobodysBard", name := "fault", desc := "(I)I" } : Jvm.MethodName)) ∈ lw_all := lw_g (lw_at lw_m4 81 rfl) rfl
theorem q905 : (Jvm.Cond.selects "NobodysBard" ({ cls := "NobodysBard", name := "fault", desc := "(I)I" } : Jvm.MethodName) ({ cls := "NobodysBard", name := "fault", desc := "(I)I" } : Jvm.MethodName)) ∈ lw_all := lw_g (lw_at lw_m4 82 rfl) rfl
theorem q906 : (Jvm.Cond.code ({ cls := "NobodysBard", name := "fault", desc := "(I)I" } : Jvm.MethodName) prog_1_method_24_code (2 : Nat) (Option.some Jvm.ClassFile.FieldType.int)) ∈ lw_all := lw_g (lw_at lw_m4 83 rfl) rfl
theorem q908 : (Jvm.Cond.instanceMethod ({ cls := "NobodysBard", name := "smoothed", desc := "(JI)J" } : Jvm.MethodName)) ∈ lw_all := lw_g (lw_at lw_m4 85 rfl) rfl
theorem q909 : (Jvm.Cond.selects "NobodysBard" ({ cls := "NobodysBard", name := "smoothed", desc := "(JI)J" } : Jvm.MethodName) ({ cls := "NobodysBard", name := "smoothed", desc := "(JI)J" } : Jvm.MethodName)) ∈ lw_all := lw_g (lw_at lw_m4 86 rfl) rfl
theorem q910 : (Jvm.Cond.code ({ cls := "NobodysBard", name := "smoothed", desc := "(JI)J" } : Jvm.MethodName) prog_1_method_25_code (4 : Nat) (Option.some Jvm.ClassFile.FieldType.long)) ∈ lw_all := lw_g (lw_at lw_m4 87 rfl) rfl
theorem q911 : (Jvm.Cond.methodLink "NobodysBard" (259 : Nat) ({ cls := "NobodysBard", name := "smooths", desc := "(LNobodysBard$Phrase;I)LNobodysBard$Phrase;" } : Jvm.MethodName)) ∈ lw_all := lw_g (lw_at lw_m4 88 rfl) rfl
theorem q912 : (Jvm.Cond.privateMethod ({ cls := "NobodysBard", name := "smooths", desc := "(LNobodysBard$Phrase;I)LNobodysBard$Phrase;" } : Jvm.MethodName)) ∈ lw_tbl := lw_at lw_m4 89 rfl
theorem q913 : (Jvm.Cond.instanceMethod ({ cls := "NobodysBard", name := "smooths", desc := "(LNobodysBard$Phrase;I)LNobodysBard$Phrase;" } : Jvm.MethodName)) ∈ lw_all := lw_g (lw_at lw_m4 90 rfl) rfl
theorem q914 : (Jvm.Cond.code ({ cls := "NobodysBard", name := "smooths", desc := "(LNobodysBard$Phrase;I)LNobodysBard$Phrase;" } : Jvm.MethodName) prog_1_method_4_code (7 : Nat) (Option.some (Jvm.ClassFile.FieldType.object "NobodysBard$Phrase"))) ∈ lw_all := lw_g (lw_at lw_m4 91 rfl) rfl
theorem q915 : (Jvm.Cond.classLink "NobodysBard" (46 : Nat) "NobodysBard$Rule") ∈ lw_all := lw_g (lw_at lw_m4 92 rfl) rfl
theorem q916 : (Jvm.Cond.methodLink "NobodysBard" (48 : Nat) ({ cls := "NobodysBard$Rule", name := "done", desc := "(LNobodysBard$Phrase;I)LNobodysBard$Phrase;" } : Jvm.MethodName)) ∈ lw_all := lw_g (lw_at lw_m4 93 rfl) rfl
theorem q972 : (Jvm.Cond.instanceMethod ({ cls := "NobodysBard", name := "told", desc := "(IIII)I" } : Jvm.MethodName)) ∈ lw_all := lw_g (lw_at lw_m4 149 rfl) rfl
theorem q973 : (Jvm.Cond.selects "NobodysBard" ({ cls := "NobodysBard", name := "told", desc := "(IIII)I" } : Jvm.MethodName) ({ cls := "NobodysBard", name := "told", desc := "(IIII)I" } : Jvm.MethodName)) ∈ lw_all := lw_g (lw_at lw_m4 150 rfl) rfl
theorem q974 : (Jvm.Cond.code ({ cls := "NobodysBard", name := "told", desc := "(IIII)I" } : Jvm.MethodName) prog_1_method_28_code (9 : Nat) (Option.some Jvm.ClassFile.FieldType.int)) ∈ lw_all := lw_g (lw_at lw_m4 151 rfl) rfl
theorem q975 : (Jvm.Cond.methodLink "NobodysBard" (276 : Nat) ({ cls := "NobodysBard", name := "draw", desc := "()I" } : Jvm.MethodName)) ∈ lw_all := lw_g (lw_at lw_m4 152 rfl) rfl
theorem q976 : (Jvm.Cond.privateMethod ({ cls := "NobodysBard", name := "draw", desc := "()I" } : Jvm.MethodName)) ∈ lw_tbl := lw_at lw_m4 153 rfl
theorem q977 : (Jvm.Cond.instanceMethod ({ cls := "NobodysBard", name := "draw", desc := "()I" } : Jvm.MethodName)) ∈ lw_all := lw_g (lw_at lw_m4 154 rfl) rfl
theorem q978 : (Jvm.Cond.code ({ cls := "NobodysBard", name := "draw", desc := "()I" } : Jvm.MethodName) prog_1_method_26_code (1 : Nat) (Option.some Jvm.ClassFile.FieldType.int)) ∈ lw_all := lw_g (lw_at lw_m4 155 rfl) rfl
theorem q979 : (Jvm.Cond.constant "NobodysBard" (262 : Nat) (1103515245 : Int32)) ∈ lw_all := lw_g (lw_at lw_m4 156 rfl) rfl
theorem q980 : (Jvm.Cond.methodLink "NobodysBard" (282 : Nat) ({ cls := "NobodysBard", name := "said", desc := "(LNobodysBard$Phrase;)LNobodysBard$Phrase;" } : Jvm.MethodName)) ∈ lw_all := lw_g (lw_at lw_m4 157 rfl) rfl
theorem q981 : (Jvm.Cond.privateMethod ({ cls := "NobodysBard", name := "said", desc := "(LNobodysBard$Phrase;)LNobodysBard$Phrase;" } : Jvm.MethodName)) ∈ lw_tbl := lw_at lw_m4 158 rfl
theorem q982 : (Jvm.Cond.instanceMethod ({ cls := "NobodysBard", name := "said", desc := "(LNobodysBard$Phrase;)LNobodysBard$Phrase;" } : Jvm.MethodName)) ∈ lw_all := lw_g (lw_at lw_m4 159 rfl) rfl
theorem q983 : (Jvm.Cond.code ({ cls := "NobodysBard", name := "said", desc := "(LNobodysBard$Phrase;)LNobodysBard$Phrase;" } : Jvm.MethodName) prog_1_method_27_code (4 : Nat) (Option.some (Jvm.ClassFile.FieldType.object "NobodysBard$Phrase"))) ∈ lw_all := lw_g (lw_at lw_m4 160 rfl) rfl
theorem q984 : (Jvm.Cond.methodLinkNest "NobodysBard" (266 : Nat) ({ cls := "NobodysBard$Phrase", name := "<init>", desc := "()V" } : Jvm.MethodName) "NobodysBard") ∈ lw_tbl := lw_at lw_m4 161 rfl
theorem q985 : (Jvm.Cond.methodLink "NobodysBard" (270 : Nat) ({ cls := "NobodysBard$Phrase", name := "adds", desc := "(I)V" } : Jvm.MethodName)) ∈ lw_all := lw_g (lw_at lw_m4 162 rfl) rfl
theorem q986 : (Jvm.Cond.methodLink "NobodysBard" (287 : Nat) ({ cls := "java/util/ArrayList", name := "isEmpty", desc := "()Z" } : Jvm.MethodName)) ∈ lw_all := lw_g (lw_at lw_m4 163 rfl) rfl
theorem q990 : (Jvm.Cond.methodLink "NobodysBard" (294 : Nat) ({ cls := "java/util/ArrayList", name := "remove", desc := "(I)Ljava/lang/Object;" } : Jvm.MethodName)) ∈ lw_all := lw_g (lw_at lw_m4 167 rfl) rfl
theorem q999 : (Jvm.Cond.methodLink "NobodysBard" (297 : Nat) ({ cls := "java/util/ArrayList", name := "add", desc := "(ILjava/lang/Object;)V" } : Jvm.MethodName)) ∈ lw_all := lw_g (lw_at lw_m4 176 rfl) rfl
theorem q1008 : (Jvm.Cond.instanceMethod ({ cls := "NobodysBard", name := "whose", desc := "(II)I" } : Jvm.MethodName)) ∈ lw_all := lw_g (lw_at lw_m4 185 rfl) rfl
theorem q1009 : (Jvm.Cond.selects "NobodysBard" ({ cls := "NobodysBard", name := "whose", desc := "(II)I" } : Jvm.MethodName) ({ cls := "NobodysBard", name := "whose", desc := "(II)I" } : Jvm.MethodName)) ∈ lw_all := lw_g (lw_at lw_m4 186 rfl) rfl
theorem q1010 : (Jvm.Cond.code ({ cls := "NobodysBard", name := "whose", desc := "(II)I" } : Jvm.MethodName) prog_1_method_35_code (4 : Nat) (Option.some Jvm.ClassFile.FieldType.int)) ∈ lw_all := lw_g (lw_at lw_m4 187 rfl) rfl
theorem q1011 : (Jvm.Cond.methodLink "NobodysBard" (343 : Nat) ({ cls := "NobodysBard", name := "laySmooth", desc := "()V" } : Jvm.MethodName)) ∈ lw_all := lw_g (lw_at lw_m4 188 rfl) rfl
theorem q1012 : (Jvm.Cond.privateMethod ({ cls := "NobodysBard", name := "laySmooth", desc := "()V" } : Jvm.MethodName)) ∈ lw_tbl := lw_at lw_m4 189 rfl
theorem q1013 : (Jvm.Cond.instanceMethod ({ cls := "NobodysBard", name := "laySmooth", desc := "()V" } : Jvm.MethodName)) ∈ lw_all := lw_g (lw_at lw_m4 190 rfl) rfl
theorem q1014 : (Jvm.Cond.code ({ cls := "NobodysBard", name := "laySmooth", desc := "()V" } : Jvm.MethodName) prog_1_method_30_code (4 : Nat) (Option.none : Option Jvm.ClassFile.FieldType)) ∈ lw_all := lw_g (lw_at lw_m4 191 rfl) rfl
theorem q1015 : (Jvm.Cond.methodLink "NobodysBard" (303 : Nat) ({ cls := "NobodysBard", name := "isEarly", desc := "(LNobodysBard$Owner;)Z" } : Jvm.MethodName)) ∈ lw_all := lw_g (lw_at lw_m4 192 rfl) rfl
theorem q1016 : (Jvm.Cond.privateMethod ({ cls := "NobodysBard", name := "isEarly", desc := "(LNobodysBard$Owner;)Z" } : Jvm.MethodName)) ∈ lw_tbl := lw_at lw_m4 193 rfl
theorem q1017 : (Jvm.Cond.instanceMethod ({ cls := "NobodysBard", name := "isEarly", desc := "(LNobodysBard$Owner;)Z" } : Jvm.MethodName)) ∈ lw_all := lw_g (lw_at lw_m4 194 rfl) rfl
theorem q1018 : (Jvm.Cond.code ({ cls := "NobodysBard", name := "isEarly", desc := "(LNobodysBard$Owner;)Z" } : Jvm.MethodName) prog_1_method_29_code (2 : Nat) (Option.some Jvm.ClassFile.FieldType.boolean)) ∈ lw_all := lw_g (lw_at lw_m4 195 rfl) rfl
theorem q1019 : (Jvm.Cond.methodLink "NobodysBard" (346 : Nat) ({ cls := "NobodysBard", name := "comes", desc := "(LNobodysBard$Printed;)LNobodysBard$Comes;" } : Jvm.MethodName)) ∈ lw_all := lw_g (lw_at lw_m4 196 rfl) rfl
theorem q1020 : (Jvm.Cond.privateMethod ({ cls := "NobodysBard", name := "comes", desc := "(LNobodysBard$Printed;)LNobodysBard$Comes;" } : Jvm.MethodName)) ∈ lw_tbl := lw_at lw_m4 197 rfl
theorem q1021 : (Jvm.Cond.instanceMethod ({ cls := "NobodysBard", name := "comes", desc := "(LNobodysBard$Printed;)LNobodysBard$Comes;" } : Jvm.MethodName)) ∈ lw_all := lw_g (lw_at lw_m4 198 rfl) rfl
theorem q1022 : (Jvm.Cond.code ({ cls := "NobodysBard", name := "comes", desc := "(LNobodysBard$Printed;)LNobodysBard$Comes;" } : Jvm.MethodName) prog_1_method_34_code (3 : Nat) (Option.some (Jvm.ClassFile.FieldType.object "NobodysBard$Comes"))) ∈ lw_all := lw_g (lw_at lw_m4 199 rfl) rfl
theorem q1023 : (Jvm.Cond.methodLink "NobodysBard" (321 : Nat) ({ cls := "NobodysBard", name := "seekSongs", desc := "(LNobodysBard$Phrase;II)I" } : Jvm.MethodName)) ∈ lw_all := lw_g (lw_at lw_m4 200 rfl) rfl
theorem q1024 : (Jvm.Cond.privateMethod ({ cls := "NobodysBard", name := "seekSongs", desc := "(LNobodysBard$Phrase;II)I" } : Jvm.MethodName)) ∈ lw_tbl := lw_at lw_m4 201 rfl
theorem q1025 : (Jvm.Cond.instanceMethod ({ cls := "NobodysBard", name := "seekSongs", desc := "(LNobodysBard$Phrase;II)I" } : Jvm.MethodName)) ∈ lw_all := lw_g (lw_at lw_m4 202 rfl) rfl
theorem q1026 : (Jvm.Cond.code ({ cls := "NobodysBard", name := "seekSongs", desc := "(LNobodysBard$Phrase;II)I" } : Jvm.MethodName) prog_1_method_32_code (7 : Nat) (Option.some Jvm.ClassFile.FieldType.int)) ∈ lw_all := lw_g (lw_at lw_m4 203 rfl) rfl
theorem q1027 : (Jvm.Cond.methodLink "NobodysBard" (316 : Nat) ({ cls := "NobodysBard", name := "seeks", desc := "(LNobodysBard$Phrase;LNobodysBard$Phrase;II)V" } : Jvm.MethodName)) ∈ lw_all := lw_g (lw_at lw_m4 204 rfl) rfl
theorem q1028 : (Jvm.Cond.privateMethod ({ cls := "NobodysBard", name := "seeks", desc := "(LNobodysBard$Phrase;LNobodysBard$Phrase;II)V" } : Jvm.MethodName)) ∈ lw_tbl := lw_at lw_m4 205 rfl
theorem q1029 : (Jvm.Cond.instanceMethod ({ cls := "NobodysBard", name := "seeks", desc := "(LNobodysBard$Phrase;LNobodysBard$Phrase;II)V" } : Jvm.MethodName)) ∈ lw_all := lw_g (lw_at lw_m4 206 rfl) rfl
theorem q1030 : (Jvm.Cond.code ({ cls := "NobodysBard", name := "seeks", desc := "(LNobodysBard$Phrase;LNobodysBard$Phrase;II)V" } : Jvm.MethodName) prog_1_method_31_code (6 : Nat) (Option.none : Option Jvm.ClassFile.FieldType)) ∈ lw_all := lw_g (lw_at lw_m4 207 rfl) rfl
theorem q1031 : (Jvm.Cond.classLink "NobodysBard" (325 : Nat) "NobodysBard$Had") ∈ lw_all := lw_g (lw_at lw_m4 208 rfl) rfl
theorem q1033 : (Jvm.Cond.methodLink "NobodysBard" (327 : Nat) ({ cls := "NobodysBard$Had", name := "<init>", desc := "(II)V" } : Jvm.MethodName)) ∈ lw_all := lw_g (lw_at lw_m4 210 rfl) rfl
theorem q1044 : (Jvm.Cond.classLink "NobodysBard" (330 : Nat) "NobodysBard$Moved") ∈ lw_all := lw_g (lw_at lw_m4 221 rfl) rfl
theorem q1046 : (Jvm.Cond.methodLink "NobodysBard" (332 : Nat) ({ cls := "NobodysBard$Moved", name := "<init>", desc := "(II)V" } : Jvm.MethodName)) ∈ lw_all := lw_g (lw_at lw_m4 223 rfl) rfl
theorem q1052 : (Jvm.Cond.classLink "NobodysBard" (333 : Nat) "NobodysBard$Smoothed") ∈ lw_all := lw_g (lw_at lw_m4 229 rfl) rfl
theorem q1054 : (Jvm.Cond.methodLink "NobodysBard" (335 : Nat) ({ cls := "NobodysBard$Smoothed", name := "<init>", desc := "(II)V" } : Jvm.MethodName)) ∈ lw_all := lw_g (lw_at lw_m4 231 rfl) rfl
theorem q1060 : (Jvm.Cond.methodLink "NobodysBard" (336 : Nat) ({ cls := "NobodysBard", name := "seekBooks", desc := "(LNobodysBard$Phrase;)I" } : Jvm.MethodName)) ∈ lw_all := lw_g (lw_at lw_m4 237 rfl) rfl
theorem q1061 : (Jvm.Cond.privateMethod ({ cls := "NobodysBard", name := "seekBooks", desc := "(LNobodysBard$Phrase;)I" } : Jvm.MethodName)) ∈ lw_tbl := lw_at lw_m4 238 rfl
theorem q1062 : (Jvm.Cond.instanceMethod ({ cls := "NobodysBard", name := "seekBooks", desc := "(LNobodysBard$Phrase;)I" } : Jvm.MethodName)) ∈ lw_all := lw_g (lw_at lw_m4 239 rfl) rfl
theorem q1063 : (Jvm.Cond.code ({ cls := "NobodysBard", name := "seekBooks", desc := "(LNobodysBard$Phrase;)I" } : Jvm.MethodName) prog_1_method_33_code (4 : Nat) (Option.some Jvm.ClassFile.FieldType.int)) ∈ lw_all := lw_g (lw_at lw_m5 0 rfl) rfl
theorem q1064 : (Jvm.Cond.classLink "NobodysBard" (340 : Nat) "NobodysBard$Borrowed") ∈ lw_all := lw_g (lw_at lw_m5 1 rfl) rfl
theorem q1066 : (Jvm.Cond.methodLink "NobodysBard" (342 : Nat) ({ cls := "NobodysBard$Borrowed", name := "<init>", desc := "(II)V" } : Jvm.MethodName)) ∈ lw_all := lw_g (lw_at lw_m5 3 rfl) rfl
theorem q1072 : (Jvm.Cond.interfaceEntry "NobodysBard" (350 : Nat)) ∈ lw_tbl := lw_at lw_m5 9 rfl
theorem q1073 : (Jvm.Cond.methodLink "NobodysBard" (350 : Nat) ({ cls := "NobodysBard$Comes", name := "kind", desc := "()I" } : Jvm.MethodName)) ∈ lw_all := lw_g (lw_at lw_m5 10 rfl) rfl
theorem q1112 : (Jvm.Cond.interfaceEntry "NobodysBard" (355 : Nat)) ∈ lw_tbl := lw_at lw_m5 49 rfl
theorem q1113 : (Jvm.Cond.methodLink "NobodysBard" (355 : Nat) ({ cls := "NobodysBard$Comes", name := "from", desc := "()I" } : Jvm.MethodName)) ∈ lw_all := lw_g (lw_at lw_m5 50 rfl) rfl
theorem q1133 : (Jvm.Cond.instanceMethod ({ cls := "NobodysBard", name := "late", desc := "(II)I" } : Jvm.MethodName)) ∈ lw_all := lw_g (lw_at lw_m5 70 rfl) rfl
theorem q1134 : (Jvm.Cond.selects "NobodysBard" ({ cls := "NobodysBard", name := "late", desc := "(II)I" } : Jvm.MethodName) ({ cls := "NobodysBard", name := "late", desc := "(II)I" } : Jvm.MethodName)) ∈ lw_all := lw_g (lw_at lw_m5 71 rfl) rfl
theorem q1135 : (Jvm.Cond.code ({ cls := "NobodysBard", name := "late", desc := "(II)I" } : Jvm.MethodName) prog_1_method_38_code (4 : Nat) (Option.some Jvm.ClassFile.FieldType.int)) ∈ lw_all := lw_g (lw_at lw_m5 72 rfl) rfl
theorem q1136 : (Jvm.Cond.methodLink "NobodysBard" (358 : Nat) ({ cls := "NobodysBard", name := "toSongs", desc := "(LNobodysBard$Phrase;)I" } : Jvm.MethodName)) ∈ lw_all := lw_g (lw_at lw_m5 73 rfl) rfl
theorem q1137 : (Jvm.Cond.privateMethod ({ cls := "NobodysBard", name := "toSongs", desc := "(LNobodysBard$Phrase;)I" } : Jvm.MethodName)) ∈ lw_tbl := lw_at lw_m5 74 rfl
theorem q1138 : (Jvm.Cond.instanceMethod ({ cls := "NobodysBard", name := "toSongs", desc := "(LNobodysBard$Phrase;)I" } : Jvm.MethodName)) ∈ lw_all := lw_g (lw_at lw_m5 75 rfl) rfl
theorem q1139 : (Jvm.Cond.code ({ cls := "NobodysBard", name := "toSongs", desc := "(LNobodysBard$Phrase;)I" } : Jvm.MethodName) prog_1_method_36_code (2 : Nat) (Option.some Jvm.ClassFile.FieldType.int)) ∈ lw_all := lw_g (lw_at lw_m5 76 rfl) rfl
theorem q1140 : (Jvm.Cond.methodLink "NobodysBard" (361 : Nat) ({ cls := "NobodysBard", name := "toPrint", desc := "(LNobodysBard$Phrase;)I" } : Jvm.MethodName)) ∈ lw_all := lw_g (lw_at lw_m5 77 rfl) rfl
theorem q1141 : (Jvm.Cond.privateMethod ({ cls := "NobodysBard", name := "toPrint", desc := "(LNobodysBard$Phrase;)I" } : Jvm.MethodName)) ∈ lw_tbl := lw_at lw_m5 78 rfl
theorem q1142 : (Jvm.Cond.instanceMethod ({ cls := "NobodysBard", name := "toPrint", desc := "(LNobodysBard$Phrase;)I" } : Jvm.MethodName)) ∈ lw_all := lw_g (lw_at lw_m5 79 rfl) rfl
theorem q1143 : (Jvm.Cond.code ({ cls := "NobodysBard", name := "toPrint", desc := "(LNobodysBard$Phrase;)I" } : Jvm.MethodName) prog_1_method_37_code (4 : Nat) (Option.some Jvm.ClassFile.FieldType.int)) ∈ lw_all := lw_g (lw_at lw_m5 80 rfl) rfl
theorem q1145 : (Jvm.Cond.instanceMethod ({ cls := "NobodysBard", name := "share", desc := "(II)I" } : Jvm.MethodName)) ∈ lw_all := lw_g (lw_at lw_m5 82 rfl) rfl
theorem q1146 : (Jvm.Cond.selects "NobodysBard" ({ cls := "NobodysBard", name := "share", desc := "(II)I" } : Jvm.MethodName) ({ cls := "NobodysBard", name := "share", desc := "(II)I" } : Jvm.MethodName)) ∈ lw_all := lw_g (lw_at lw_m5 83 rfl) rfl
theorem q1147 : (Jvm.Cond.code ({ cls := "NobodysBard", name := "share", desc := "(II)I" } : Jvm.MethodName) prog_1_method_40_code (3 : Nat) (Option.some Jvm.ClassFile.FieldType.int)) ∈ lw_all := lw_g (lw_at lw_m5 84 rfl) rfl
theorem q1148 : (Jvm.Cond.methodLink "NobodysBard" (364 : Nat) ({ cls := "NobodysBard", name := "layKinds", desc := "()V" } : Jvm.MethodName)) ∈ lw_all := lw_g (lw_at lw_m5 85 rfl) rfl
theorem q1149 : (Jvm.Cond.privateMethod ({ cls := "NobodysBard", name := "layKinds", desc := "()V" } : Jvm.MethodName)) ∈ lw_tbl := lw_at lw_m5 86 rfl
theorem q1150 : (Jvm.Cond.instanceMethod ({ cls := "NobodysBard", name := "layKinds", desc := "()V" } : Jvm.MethodName)) ∈ lw_all := lw_g (lw_at lw_m5 87 rfl) rfl
theorem q1151 : (Jvm.Cond.code ({ cls := "NobodysBard", name := "layKinds", desc := "()V" } : Jvm.MethodName) prog_1_method_39_code (2 : Nat) (Option.none : Option Jvm.ClassFile.FieldType)) ∈ lw_all := lw_g (lw_at lw_m5 88 rfl) rfl
theorem q1153 : (Jvm.Cond.instanceMethod ({ cls := "NobodysBard", name := "span", desc := "(I)I" } : Jvm.MethodName)) ∈ lw_all := lw_g (lw_at lw_m5 90 rfl) rfl
theorem q1154 : (Jvm.Cond.selects "NobodysBard" ({ cls := "NobodysBard", name := "span", desc := "(I)I" } : Jvm.MethodName) ({ cls := "NobodysBard", name := "span", desc := "(I)I" } : Jvm.MethodName)) ∈ lw_all := lw_g (lw_at lw_m5 91 rfl) rfl
theorem q1155 : (Jvm.Cond.code ({ cls := "NobodysBard", name := "span", desc := "(I)I" } : Jvm.MethodName) prog_1_method_41_code (3 : Nat) (Option.some Jvm.ClassFile.FieldType.int)) ∈ lw_all := lw_g (lw_at lw_m5 92 rfl) rfl
theorem q1157 : (Jvm.Cond.instanceMethod ({ cls := "NobodysBard", name := "chance", desc := "(II)I" } : Jvm.MethodName)) ∈ lw_all := lw_g (lw_at lw_m5 94 rfl) rfl
theorem q1158 : (Jvm.Cond.selects "NobodysBard" ({ cls := "NobodysBard", name := "chance", desc := "(II)I" } : Jvm.MethodName) ({ cls := "NobodysBard", name := "chance", desc := "(II)I" } : Jvm.MethodName)) ∈ lw_all := lw_g (lw_at lw_m5 95 rfl) rfl
theorem q1159 : (Jvm.Cond.code ({ cls := "NobodysBard", name := "chance", desc := "(II)I" } : Jvm.MethodName) prog_1_method_46_code (3 : Nat) (Option.some Jvm.ClassFile.FieldType.int)) ∈ lw_all := lw_g (lw_at lw_m5 96 rfl) rfl
theorem q1160 : (Jvm.Cond.methodLink "NobodysBard" (376 : Nat) ({ cls := "NobodysBard", name := "isPart", desc := "(I)Z" } : Jvm.MethodName)) ∈ lw_all := lw_g (lw_at lw_m5 97 rfl) rfl
theorem q1161 : (Jvm.Cond.static ({ cls := "NobodysBard", name := "isPart", desc := "(I)Z" } : Jvm.MethodName)) ∈ lw_all := lw_g (lw_at lw_m5 98 rfl) rfl
theorem q1162 : (Jvm.Cond.code ({ cls := "NobodysBard", name := "isPart", desc := "(I)Z" } : Jvm.MethodName) prog_1_method_43_code (1 : Nat) (Option.some Jvm.ClassFile.FieldType.boolean)) ∈ lw_all := lw_g (lw_at lw_m5 99 rfl) rfl
theorem q1163 : (Jvm.Cond.methodLink "NobodysBard" (379 : Nat) ({ cls := "NobodysBard", name := "isBound", desc := "(I)Z" } : Jvm.MethodName)) ∈ lw_all := lw_g (lw_at lw_m5 100 rfl) rfl
theorem q1164 : (Jvm.Cond.static ({ cls := "NobodysBard", name := "isBound", desc := "(I)Z" } : Jvm.MethodName)) ∈ lw_all := lw_g (lw_at lw_m5 101 rfl) rfl
theorem q1165 : (Jvm.Cond.code ({ cls := "NobodysBard", name := "isBound", desc := "(I)Z" } : Jvm.MethodName) prog_1_method_45_code (1 : Nat) (Option.some Jvm.ClassFile.FieldType.boolean)) ∈ lw_all := lw_g (lw_at lw_m5 102 rfl) rfl
theorem q1166 : (Jvm.Cond.methodLink "NobodysBard" (382 : Nat) ({ cls := "NobodysBard", name := "pairs", desc := "(Ljava/util/ArrayList;ZI)V" } : Jvm.MethodName)) ∈ lw_all := lw_g (lw_at lw_m5 103 rfl) rfl
theorem q1167 : (Jvm.Cond.privateMethod ({ cls := "NobodysBard", name := "pairs", desc := "(Ljava/util/ArrayList;ZI)V" } : Jvm.MethodName)) ∈ lw_tbl := lw_at lw_m5 104 rfl
theorem q1168 : (Jvm.Cond.instanceMethod ({ cls := "NobodysBard", name := "pairs", desc := "(Ljava/util/ArrayList;ZI)V" } : Jvm.MethodName)) ∈ lw_all := lw_g (lw_at lw_m5 105 rfl) rfl
theorem q1169 : (Jvm.Cond.code ({ cls := "NobodysBard", name := "pairs", desc := "(Ljava/util/ArrayList;ZI)V" } : Jvm.MethodName) prog_1_method_44_code (8 : Nat) (Option.none : Option Jvm.ClassFile.FieldType)) ∈ lw_all := lw_g (lw_at lw_m5 106 rfl) rfl
theorem q1170 : (Jvm.Cond.methodLink "NobodysBard" (385 : Nat) ({ cls := "NobodysBard", name := "part", desc := "(JJI)J" } : Jvm.MethodName)) ∈ lw_all := lw_g (lw_at lw_m5 107 rfl) rfl
theorem q1171 : (Jvm.Cond.static ({ cls := "NobodysBard", name := "part", desc := "(JJI)J" } : Jvm.MethodName)) ∈ lw_all := lw_g (lw_at lw_m5 108 rfl) rfl
theorem q1172 : (Jvm.Cond.code ({ cls := "NobodysBard", name := "part", desc := "(JJI)J" } : Jvm.MethodName) prog_1_method_42_code (11 : Nat) (Option.some Jvm.ClassFile.FieldType.long)) ∈ lw_all := lw_g (lw_at lw_m5 109 rfl) rfl
theorem q1174 : (Jvm.Cond.instanceMethod ({ cls := "NobodysBard", name := "odds", desc := "(II)J" } : Jvm.MethodName)) ∈ lw_all := lw_g (lw_at lw_m5 111 rfl) rfl
theorem q1175 : (Jvm.Cond.selects "NobodysBard" ({ cls := "NobodysBard", name := "odds", desc := "(II)J" } : Jvm.MethodName) ({ cls := "NobodysBard", name := "odds", desc := "(II)J" } : Jvm.MethodName)) ∈ lw_all := lw_g (lw_at lw_m5 112 rfl) rfl
theorem q1176 : (Jvm.Cond.code ({ cls := "NobodysBard", name := "odds", desc := "(II)J" } : Jvm.MethodName) prog_1_method_47_code (7 : Nat) (Option.some Jvm.ClassFile.FieldType.long)) ∈ lw_all := lw_g (lw_at lw_m5 113 rfl) rfl
theorem q1178 : (Jvm.Cond.instanceMethod ({ cls := "NobodysBard", name := "matches", desc := "(II)I" } : Jvm.MethodName)) ∈ lw_all := lw_g (lw_at lw_m5 115 rfl) rfl
theorem q1179 : (Jvm.Cond.selects "NobodysBard" ({ cls := "NobodysBard", name := "matches", desc := "(II)I" } : Jvm.MethodName) ({ cls := "NobodysBard", name := "matches", desc := "(II)I" } : Jvm.MethodName)) ∈ lw_all := lw_g (lw_at lw_m5 116 rfl) rfl
theorem q1180 : (Jvm.Cond.code ({ cls := "NobodysBard", name := "matches", desc := "(II)I" } : Jvm.MethodName) prog_1_method_49_code (3 : Nat) (Option.some Jvm.ClassFile.FieldType.int)) ∈ lw_all := lw_g (lw_at lw_m5 117 rfl) rfl
theorem q1181 : (Jvm.Cond.methodLink "NobodysBard" (389 : Nat) ({ cls := "NobodysBard", name := "matchesOf", desc := "(II)I" } : Jvm.MethodName)) ∈ lw_all := lw_g (lw_at lw_m5 118 rfl) rfl
theorem q1182 : (Jvm.Cond.privateMethod ({ cls := "NobodysBard", name := "matchesOf", desc := "(II)I" } : Jvm.MethodName)) ∈ lw_tbl := lw_at lw_m5 119 rfl
theorem q1183 : (Jvm.Cond.instanceMethod ({ cls := "NobodysBard", name := "matchesOf", desc := "(II)I" } : Jvm.MethodName)) ∈ lw_all := lw_g (lw_at lw_m5 120 rfl) rfl
theorem q1184 : (Jvm.Cond.code ({ cls := "NobodysBard", name := "matchesOf", desc := "(II)I" } : Jvm.MethodName) prog_1_method_48_code (8 : Nat) (Option.some Jvm.ClassFile.FieldType.int)) ∈ lw_all := lw_g (lw_at lw_m5 121 rfl) rfl
theorem q1186 : (Jvm.Cond.instanceMethod ({ cls := "NobodysBard", name := "most", desc := "(II)I" } : Jvm.MethodName)) ∈ lw_all := lw_g (lw_at lw_m5 123 rfl) rfl
theorem q1187 : (Jvm.Cond.selects "NobodysBard" ({ cls := "NobodysBard", name := "most", desc := "(II)I" } : Jvm.MethodName) ({ cls := "NobodysBard", name := "most", desc := "(II)I" } : Jvm.MethodName)) ∈ lw_all := lw_g (lw_at lw_m5 124 rfl) rfl
theorem q1188 : (Jvm.Cond.code ({ cls := "NobodysBard", name := "most", desc := "(II)I" } : Jvm.MethodName) prog_1_method_50_code (8 : Nat) (Option.some Jvm.ClassFile.FieldType.int)) ∈ lw_all := lw_g (lw_at lw_m5 125 rfl) rfl
theorem q1190 : (Jvm.Cond.instanceMethod ({ cls := "NobodysBard", name := "adds", desc := "(II)I" } : Jvm.MethodName)) ∈ lw_all := lw_g (lw_at lw_m5 127 rfl) rfl
theorem q1191 : (Jvm.Cond.selects "NobodysBard" ({ cls := "NobodysBard", name := "adds", desc := "(II)I" } : Jvm.MethodName) ({ cls := "NobodysBard", name := "adds", desc := "(II)I" } : Jvm.MethodName)) ∈ lw_all := lw_g (lw_at lw_m5 128 rfl) rfl
theorem q1192 : (Jvm.Cond.code ({ cls := "NobodysBard", name := "adds", desc := "(II)I" } : Jvm.MethodName) prog_1_method_52_code (3 : Nat) (Option.some Jvm.ClassFile.FieldType.int)) ∈ lw_all := lw_g (lw_at lw_m5 129 rfl) rfl
theorem q1193 : (Jvm.Cond.methodLink "NobodysBard" (392 : Nat) ({ cls := "NobodysBard", name := "addedBy", desc := "(LNobodysBard$Owner;II)I" } : Jvm.MethodName)) ∈ lw_all := lw_g (lw_at lw_m5 130 rfl) rfl
theorem q1194 : (Jvm.Cond.privateMethod ({ cls := "NobodysBard", name := "addedBy", desc := "(LNobodysBard$Owner;II)I" } : Jvm.MethodName)) ∈ lw_tbl := lw_at lw_m5 131 rfl
theorem q1195 : (Jvm.Cond.instanceMethod ({ cls := "NobodysBard", name := "addedBy", desc := "(LNobodysBard$Owner;II)I" } : Jvm.MethodName)) ∈ lw_all := lw_g (lw_at lw_m5 132 rfl) rfl
theorem q1196 : (Jvm.Cond.code ({ cls := "NobodysBard", name := "addedBy", desc := "(LNobodysBard$Owner;II)I" } : Jvm.MethodName) prog_1_method_51_code (9 : Nat) (Option.some Jvm.ClassFile.FieldType.int)) ∈ lw_all := lw_g (lw_at lw_m5 133 rfl) rfl
theorem q1198 : (Jvm.Cond.instanceMethod ({ cls := "NobodysBard", name := "added", desc := "(III)I" } : Jvm.MethodName)) ∈ lw_all := lw_g (lw_at lw_m5 135 rfl) rfl
theorem q1199 : (Jvm.Cond.selects "NobodysBard" ({ cls := "NobodysBard", name := "added", desc := "(III)I" } : Jvm.MethodName) ({ cls := "NobodysBard", name := "added", desc := "(III)I" } : Jvm.MethodName)) ∈ lw_all := lw_g (lw_at lw_m5 136 rfl) rfl
theorem q1200 : (Jvm.Cond.code ({ cls := "NobodysBard", name := "added", desc := "(III)I" } : Jvm.MethodName) prog_1_method_53_code (4 : Nat) (Option.some Jvm.ClassFile.FieldType.int)) ∈ lw_all := lw_g (lw_at lw_m5 137 rfl) rfl
theorem q1202 : (Jvm.Cond.instanceMethod ({ cls := "NobodysBard", name := "year", desc := "(II)I" } : Jvm.MethodName)) ∈ lw_all := lw_g (lw_at lw_m5 139 rfl) rfl
theorem q1203 : (Jvm.Cond.selects "NobodysBard" ({ cls := "NobodysBard", name := "year", desc := "(II)I" } : Jvm.MethodName) ({ cls := "NobodysBard", name := "year", desc := "(II)I" } : Jvm.MethodName)) ∈ lw_all := lw_g (lw_at lw_m5 140 rfl) rfl
theorem q1204 : (Jvm.Cond.code ({ cls := "NobodysBard", name := "year", desc := "(II)I" } : Jvm.MethodName) prog_1_method_54_code (4 : Nat) (Option.some Jvm.ClassFile.FieldType.int)) ∈ lw_all := lw_g (lw_at lw_m5 141 rfl) rfl
theorem q1205 : (Jvm.Cond.constantLong "NobodysBard" (396 : Nat) (255 : Int64)) ∈ lw_all := lw_g (lw_at lw_m5 142 rfl) rfl
theorem q1207 : (Jvm.Cond.instanceMethod ({ cls := "NobodysBard", name := "version", desc := "(JJII)I" } : Jvm.MethodName)) ∈ lw_all := lw_g (lw_at lw_m5 144 rfl) rfl
theorem q1208 : (Jvm.Cond.selects "NobodysBard" ({ cls := "NobodysBard", name := "version", desc := "(JJII)I" } : Jvm.MethodName) ({ cls := "NobodysBard", name := "version", desc := "(JJII)I" } : Jvm.MethodName)) ∈ lw_all := lw_g (lw_at lw_m5 145 rfl) rfl
theorem q1209 : (Jvm.Cond.code ({ cls := "NobodysBard", name := "version", desc := "(JJII)I" } : Jvm.MethodName) prog_1_method_55_code (7 : Nat) (Option.some Jvm.ClassFile.FieldType.int)) ∈ lw_all := lw_g (lw_at lw_m5 146 rfl) rfl
theorem q1211 : (Jvm.Cond.methodLink "NobodysBard" (401 : Nat) ({ cls := "NobodysBard$Version", name := "<init>", desc := "(LNobodysBard$Phrase;LNobodysBard$Phrase;II)V" } : Jvm.MethodName)) ∈ lw_all := lw_g (lw_at lw_m5 148 rfl) rfl
theorem q1216 : (Jvm.Cond.fieldLinkNest "NobodysBard" (204 : Nat) "NobodysBard$Version" "old" "LNobodysBard$Phrase;" "NobodysBard") ∈ lw_tbl := lw_at lw_m5 153 rfl
theorem q1218 : (Jvm.Cond.fieldLinkNest "NobodysBard" (207 : Nat) "NobodysBard$Version" "young" "LNobodysBard$Phrase;" "NobodysBard") ∈ lw_tbl := lw_at lw_m5 155 rfl
theorem q1220 : (Jvm.Cond.fieldLinkNest "NobodysBard" (403 : Nat) "NobodysBard$Version" "day" "I" "NobodysBard") ∈ lw_tbl := lw_at lw_m5 157 rfl
theorem q1222 : (Jvm.Cond.fieldLinkNest "NobodysBard" (404 : Nat) "NobodysBard$Version" "tale" "I" "NobodysBard") ∈ lw_tbl := lw_at lw_m5 159 rfl
theorem q1233 : (Jvm.Cond.instanceMethod ({ cls := "NobodysBard", name := "which", desc := "(I)I" } : Jvm.MethodName)) ∈ lw_all := lw_g (lw_at lw_m5 170 rfl) rfl
theorem q1234 : (Jvm.Cond.selects "NobodysBard" ({ cls := "NobodysBard", name := "which", desc := "(I)I" } : Jvm.MethodName) ({ cls := "NobodysBard", name := "which", desc := "(I)I" } : Jvm.MethodName)) ∈ lw_all := lw_g (lw_at lw_m5 171 rfl) rfl
theorem q1235 : (Jvm.Cond.code ({ cls := "NobodysBard", name := "which", desc := "(I)I" } : Jvm.MethodName) prog_1_method_56_code (4 : Nat) (Option.some Jvm.ClassFile.FieldType.int)) ∈ lw_all := lw_g (lw_at lw_m5 172 rfl) rfl
theorem q1236 : (Jvm.Cond.methodLink "NobodysBard" (405 : Nat) ({ cls := "NobodysBard$Phrase", name := "isSame", desc := "(LNobodysBard$Phrase;)Z" } : Jvm.MethodName)) ∈ lw_all := lw_g (lw_at lw_m5 173 rfl) rfl
theorem q1238 : (Jvm.Cond.instanceMethod ({ cls := "NobodysBard", name := "answer", desc := "(IIIIIJ)I" } : Jvm.MethodName)) ∈ lw_all := lw_g (lw_at lw_m5 175 rfl) rfl
theorem q1239 : (Jvm.Cond.selects "NobodysBard" ({ cls := "NobodysBard", name := "answer", desc := "(IIIIIJ)I" } : Jvm.MethodName) ({ cls := "NobodysBard", name := "answer", desc := "(IIIIIJ)I" } : Jvm.MethodName)) ∈ lw_all := lw_g (lw_at lw_m5 176 rfl) rfl
theorem q1240 : (Jvm.Cond.code ({ cls := "NobodysBard", name := "answer", desc := "(IIIIIJ)I" } : Jvm.MethodName) prog_1_method_58_code (8 : Nat) (Option.some Jvm.ClassFile.FieldType.int)) ∈ lw_all := lw_g (lw_at lw_m5 177 rfl) rfl
theorem q1241 : (Jvm.Cond.methodLink "NobodysBard" (409 : Nat) ({ cls := "NobodysBard", name := "isAnswer", desc := "(JJJJJ)Z" } : Jvm.MethodName)) ∈ lw_all := lw_g (lw_at lw_m5 178 rfl) rfl
theorem q1242 : (Jvm.Cond.static ({ cls := "NobodysBard", name := "isAnswer", desc := "(JJJJJ)Z" } : Jvm.MethodName)) ∈ lw_all := lw_g (lw_at lw_m5 179 rfl) rfl
theorem q1243 : (Jvm.Cond.code ({ cls := "NobodysBard", name := "isAnswer", desc := "(JJJJJ)Z" } : Jvm.MethodName) prog_1_method_57_code (10 : Nat) (Option.some Jvm.ClassFile.FieldType.boolean)) ∈ lw_all := lw_g (lw_at lw_m5 180 rfl) rfl
theorem q1244 : (Jvm.Cond.classLink "NobodysBard" (416 : Nat) "NobodysBard$Answer") ∈ lw_all := lw_g (lw_at lw_m5 181 rfl) rfl
theorem q1246 : (Jvm.Cond.methodLink "NobodysBard" (418 : Nat) ({ cls := "NobodysBard$Answer", name := "<init>", desc := "(IIIIILNobodysBard$Phrase;)V" } : Jvm.MethodName)) ∈ lw_all := lw_g (lw_at lw_m5 183 rfl) rfl
theorem q1251 : (Jvm.Cond.fieldLinkNest "NobodysBard" (447 : Nat) "NobodysBard$Answer" "glen" "I" "NobodysBard") ∈ lw_tbl := lw_at lw_m5 188 rfl
theorem q1253 : (Jvm.Cond.fieldLinkNest "NobodysBard" (422 : Nat) "NobodysBard$Answer" "day" "I" "NobodysBard") ∈ lw_tbl := lw_at lw_m5 190 rfl
theorem q1255 : (Jvm.Cond.fieldLinkNest "NobodysBard" (430 : Nat) "NobodysBard$Answer" "hope" "I" "NobodysBard") ∈ lw_tbl := lw_at lw_m5 192 rfl
theorem q1257 : (Jvm.Cond.fieldLinkNest "NobodysBard" (435 : Nat) "NobodysBard$Answer" "first" "I" "NobodysBard") ∈ lw_tbl := lw_at lw_m5 194 rfl
theorem q1259 : (Jvm.Cond.fieldLinkNest "NobodysBard" (438 : Nat) "NobodysBard$Answer" "second" "I" "NobodysBard") ∈ lw_tbl := lw_at lw_m5 196 rfl
theorem q1261 : (Jvm.Cond.fieldLinkNest "NobodysBard" (421 : Nat) "NobodysBard$Answer" "line" "LNobodysBard$Phrase;" "NobodysBard") ∈ lw_tbl := lw_at lw_m5 198 rfl
theorem q1276 : (Jvm.Cond.instanceMethod ({ cls := "NobodysBard", name := "back", desc := "(I)I" } : Jvm.MethodName)) ∈ lw_all := lw_g (lw_at lw_m5 213 rfl) rfl
theorem q1277 : (Jvm.Cond.selects "NobodysBard" ({ cls := "NobodysBard", name := "back", desc := "(I)I" } : Jvm.MethodName) ({ cls := "NobodysBard", name := "back", desc := "(I)I" } : Jvm.MethodName)) ∈ lw_all := lw_g (lw_at lw_m5 214 rfl) rfl
theorem q1278 : (Jvm.Cond.code ({ cls := "NobodysBard", name := "back", desc := "(I)I" } : Jvm.MethodName) prog_1_method_61_code (2 : Nat) (Option.some Jvm.ClassFile.FieldType.int)) ∈ lw_all := lw_g (lw_at lw_m5 215 rfl) rfl
theorem q1279 : (Jvm.Cond.methodLink "NobodysBard" (423 : Nat) ({ cls := "NobodysBard", name := "isAnswerAt", desc := "(I)Z" } : Jvm.MethodName)) ∈ lw_all := lw_g (lw_at lw_m5 216 rfl) rfl
theorem q1280 : (Jvm.Cond.privateMethod ({ cls := "NobodysBard", name := "isAnswerAt", desc := "(I)Z" } : Jvm.MethodName)) ∈ lw_tbl := lw_at lw_m5 217 rfl
theorem q1281 : (Jvm.Cond.instanceMethod ({ cls := "NobodysBard", name := "isAnswerAt", desc := "(I)Z" } : Jvm.MethodName)) ∈ lw_all := lw_g (lw_at lw_m5 218 rfl) rfl
theorem q1282 : (Jvm.Cond.code ({ cls := "NobodysBard", name := "isAnswerAt", desc := "(I)Z" } : Jvm.MethodName) prog_1_method_60_code (2 : Nat) (Option.some Jvm.ClassFile.FieldType.boolean)) ∈ lw_all := lw_g (lw_at lw_m5 219 rfl) rfl
theorem q1283 : (Jvm.Cond.methodLink "NobodysBard" (426 : Nat) ({ cls := "NobodysBard", name := "isBack", desc := "(LNobodysBard$Answer;)Z" } : Jvm.MethodName)) ∈ lw_all := lw_g (lw_at lw_m5 220 rfl) rfl
theorem q1284 : (Jvm.Cond.privateMethod ({ cls := "NobodysBard", name := "isBack", desc := "(LNobodysBard$Answer;)Z" } : Jvm.MethodName)) ∈ lw_tbl := lw_at lw_m5 221 rfl
theorem q1285 : (Jvm.Cond.instanceMethod ({ cls := "NobodysBard", name := "isBack", desc := "(LNobodysBard$Answer;)Z" } : Jvm.MethodName)) ∈ lw_all := lw_g (lw_at lw_m5 222 rfl) rfl
theorem q1286 : (Jvm.Cond.code ({ cls := "NobodysBard", name := "isBack", desc := "(LNobodysBard$Answer;)Z" } : Jvm.MethodName) prog_1_method_59_code (2 : Nat) (Option.some Jvm.ClassFile.FieldType.boolean)) ∈ lw_all := lw_g (lw_at lw_m5 223 rfl) rfl
theorem q1288 : (Jvm.Cond.instanceMethod ({ cls := "NobodysBard", name := "backOdds", desc := "(II)I" } : Jvm.MethodName)) ∈ lw_all := lw_g (lw_at lw_m5 225 rfl) rfl
theorem q1289 : (Jvm.Cond.selects "NobodysBard" ({ cls := "NobodysBard", name := "backOdds", desc := "(II)I" } : Jvm.MethodName) ({ cls := "NobodysBard", name := "backOdds", desc := "(II)I" } : Jvm.MethodName)) ∈ lw_all := lw_g (lw_at lw_m5 226 rfl) rfl
theorem q1290 : (Jvm.Cond.code ({ cls := "NobodysBard", name := "backOdds", desc := "(II)I" } : Jvm.MethodName) prog_1_method_62_code (4 : Nat) (Option.some Jvm.ClassFile.FieldType.int)) ∈ lw_all := lw_g (lw_at lw_m5 227 rfl) rfl
theorem q1291 : (Jvm.Cond.constantLong "NobodysBard" (433 : Nat) (10 : Int64)) ∈ lw_all := lw_g (lw_at lw_m5 228 rfl) rfl
theorem q1293 : (Jvm.Cond.instanceMethod ({ cls := "NobodysBard", name := "parted", desc := "(IZ)I" } : Jvm.MethodName)) ∈ lw_all := lw_g (lw_at lw_m5 230 rfl) rfl
theorem q1294 : (Jvm.Cond.selects "NobodysBard" ({ cls := "NobodysBard", name := "parted", desc := "(IZ)I" } : Jvm.MethodName) ({ cls := "NobodysBard", name := "parted", desc := "(IZ)I" } : Jvm.MethodName)) ∈ lw_all := lw_g (lw_at lw_m5 231 rfl) rfl
theorem q1295 : (Jvm.Cond.code ({ cls := "NobodysBard", name := "parted", desc := "(IZ)I" } : Jvm.MethodName) prog_1_method_64_code (6 : Nat) (Option.some Jvm.ClassFile.FieldType.int)) ∈ lw_all := lw_g (lw_at lw_m5 232 rfl) rfl
theorem q1296 : (Jvm.Cond.methodLink "NobodysBard" (441 : Nat) ({ cls := "NobodysBard", name := "saidTo", desc := "(LNobodysBard$Answer;I)I" } : Jvm.MethodName)) ∈ lw_all := lw_g (lw_at lw_m5 233 rfl) rfl
theorem q1297 : (Jvm.Cond.static ({ cls := "NobodysBard", name := "saidTo", desc := "(LNobodysBard$Answer;I)I" } : Jvm.MethodName)) ∈ lw_all := lw_g (lw_at lw_m5 234 rfl) rfl
theorem q1298 : (Jvm.Cond.code ({ cls := "NobodysBard", name := "saidTo", desc := "(LNobodysBard$Answer;I)I" } : Jvm.MethodName) prog_1_method_63_code (2 : Nat) (Option.some Jvm.ClassFile.FieldType.int)) ∈ lw_all := lw_g (lw_at lw_m5 235 rfl) rfl
theorem q1300 : (Jvm.Cond.instanceMethod ({ cls := "NobodysBard", name := "muddled", desc := "(I)I" } : Jvm.MethodName)) ∈ lw_all := lw_g (lw_at lw_m5 237 rfl) rfl
theorem q1301 : (Jvm.Cond.selects "NobodysBard" ({ cls := "NobodysBard", name := "muddled", desc := "(I)I" } : Jvm.MethodName) ({ cls := "NobodysBard", name := "muddled", desc := "(I)I" } : Jvm.MethodName)) ∈ lw_all := lw_g (lw_at lw_m5 238 rfl) rfl
theorem q1302 : (Jvm.Cond.code ({ cls := "NobodysBard", name := "muddled", desc := "(I)I" } : Jvm.MethodName) prog_1_method_65_code (5 : Nat) (Option.some Jvm.ClassFile.FieldType.int)) ∈ lw_all := lw_g (lw_at lw_m5 239 rfl) rfl
theorem q1304 : (Jvm.Cond.instanceMethod ({ cls := "NobodysBard", name := "glen", desc := "(II)I" } : Jvm.MethodName)) ∈ lw_all := lw_g (lw_at lw_m6 1 rfl) rfl
theorem q1305 : (Jvm.Cond.selects "NobodysBard" ({ cls := "NobodysBard", name := "glen", desc := "(II)I" } : Jvm.MethodName) ({ cls := "NobodysBard", name := "glen", desc := "(II)I" } : Jvm.MethodName)) ∈ lw_all := lw_g (lw_at lw_m6 2 rfl) rfl
theorem q1306 : (Jvm.Cond.code ({ cls := "NobodysBard", name := "glen", desc := "(II)I" } : Jvm.MethodName) prog_1_method_66_code (6 : Nat) (Option.some Jvm.ClassFile.FieldType.int)) ∈ lw_all := lw_g (lw_at lw_m6 3 rfl) rfl
theorem q1307 : (Jvm.Cond.constantLong "NobodysBard" (445 : Nat) (3 : Int64)) ∈ lw_all := lw_g (lw_at lw_m6 4 rfl) rfl
theorem q1309 : (Jvm.Cond.instanceMethod ({ cls := "NobodysBard", name := "paid", desc := "(II)I" } : Jvm.MethodName)) ∈ lw_all := lw_g (lw_at lw_m6 6 rfl) rfl
theorem q1310 : (Jvm.Cond.selects "NobodysBard" ({ cls := "NobodysBard", name := "paid", desc := "(II)I" } : Jvm.MethodName) ({ cls := "NobodysBard", name := "paid", desc := "(II)I" } : Jvm.MethodName)) ∈ lw_all := lw_g (lw_at lw_m6 7 rfl) rfl
theorem q1311 : (Jvm.Cond.code ({ cls := "NobodysBard", name := "paid", desc := "(II)I" } : Jvm.MethodName) prog_1_method_67_code (3 : Nat) (Option.some Jvm.ClassFile.FieldType.int)) ∈ lw_all := lw_g (lw_at lw_m6 8 rfl) rfl
theorem q1312 : (Jvm.Cond.constantLong "NobodysBard" (450 : Nat) (999 : Int64)) ∈ lw_all := lw_g (lw_at lw_m6 9 rfl) rfl
theorem q1313 : (Jvm.Cond.classLink "NobodysBard" (455 : Nat) "NobodysBard$Pair") ∈ lw_all := lw_g (lw_at lw_m6 10 rfl) rfl
theorem q1315 : (Jvm.Cond.methodLink "NobodysBard" (457 : Nat) ({ cls := "NobodysBard$Pair", name := "<init>", desc := "(II)V" } : Jvm.MethodName)) ∈ lw_all := lw_g (lw_at lw_m6 12 rfl) rfl
theorem q1320 : (Jvm.Cond.fieldLinkNest "NobodysBard" (463 : Nat) "NobodysBard$Pair" "one" "I" "NobodysBard") ∈ lw_tbl := lw_at lw_m6 17 rfl
theorem q1322 : (Jvm.Cond.fieldLinkNest "NobodysBard" (466 : Nat) "NobodysBard$Pair" "two" "I" "NobodysBard") ∈ lw_tbl := lw_at lw_m6 19 rfl
theorem q1329 : (Jvm.Cond.instanceMethod ({ cls := "NobodysBard", name := "pages", desc := "(II)I" } : Jvm.MethodName)) ∈ lw_all := lw_g (lw_at lw_m6 26 rfl) rfl
theorem q1330 : (Jvm.Cond.selects "NobodysBard" ({ cls := "NobodysBard", name := "pages", desc := "(II)I" } : Jvm.MethodName) ({ cls := "NobodysBard", name := "pages", desc := "(II)I" } : Jvm.MethodName)) ∈ lw_all := lw_g (lw_at lw_m6 27 rfl) rfl
theorem q1331 : (Jvm.Cond.code ({ cls := "NobodysBard", name := "pages", desc := "(II)I" } : Jvm.MethodName) prog_1_method_68_code (3 : Nat) (Option.some Jvm.ClassFile.FieldType.int)) ∈ lw_all := lw_g (lw_at lw_m6 28 rfl) rfl
theorem q1332 : (Jvm.Cond.constantLong "NobodysBard" (458 : Nat) (99 : Int64)) ∈ lw_all := lw_g (lw_at lw_m6 29 rfl) rfl
theorem q1334 : (Jvm.Cond.instanceMethod ({ cls := "NobodysBard", name := "more", desc := "(II)I" } : Jvm.MethodName)) ∈ lw_all := lw_g (lw_at lw_m6 31 rfl) rfl
theorem q1335 : (Jvm.Cond.selects "NobodysBard" ({ cls := "NobodysBard", name := "more", desc := "(II)I" } : Jvm.MethodName) ({ cls := "NobodysBard", name := "more", desc := "(II)I" } : Jvm.MethodName)) ∈ lw_all := lw_g (lw_at lw_m6 32 rfl) rfl
theorem q1336 : (Jvm.Cond.code ({ cls := "NobodysBard", name := "more", desc := "(II)I" } : Jvm.MethodName) prog_1_method_70_code (6 : Nat) (Option.some Jvm.ClassFile.FieldType.int)) ∈ lw_all := lw_g (lw_at lw_m6 33 rfl) rfl
theorem q1337 : (Jvm.Cond.methodLink "NobodysBard" (469 : Nat) ({ cls := "NobodysBard", name := "pagesIn", desc := "(II)I" } : Jvm.MethodName)) ∈ lw_all := lw_g (lw_at lw_m6 34 rfl) rfl
theorem q1338 : (Jvm.Cond.privateMethod ({ cls := "NobodysBard", name := "pagesIn", desc := "(II)I" } : Jvm.MethodName)) ∈ lw_tbl := lw_at lw_m6 35 rfl
theorem q1339 : (Jvm.Cond.instanceMethod ({ cls := "NobodysBard", name := "pagesIn", desc := "(II)I" } : Jvm.MethodName)) ∈ lw_all := lw_g (lw_at lw_m6 36 rfl) rfl
theorem q1340 : (Jvm.Cond.code ({ cls := "NobodysBard", name := "pagesIn", desc := "(II)I" } : Jvm.MethodName) prog_1_method_69_code (5 : Nat) (Option.some Jvm.ClassFile.FieldType.int)) ∈ lw_all := lw_g (lw_at lw_m6 37 rfl) rfl
theorem q1342 : (Jvm.Cond.instanceMethod ({ cls := "NobodysBard", name := "free", desc := "(II)I" } : Jvm.MethodName)) ∈ lw_all := lw_g (lw_at lw_m6 39 rfl) rfl
theorem q1343 : (Jvm.Cond.selects "NobodysBard" ({ cls := "NobodysBard", name := "free", desc := "(II)I" } : Jvm.MethodName) ({ cls := "NobodysBard", name := "free", desc := "(II)I" } : Jvm.MethodName)) ∈ lw_all := lw_g (lw_at lw_m6 40 rfl) rfl
theorem q1344 : (Jvm.Cond.code ({ cls := "NobodysBard", name := "free", desc := "(II)I" } : Jvm.MethodName) prog_1_method_71_code (3 : Nat) (Option.some Jvm.ClassFile.FieldType.int)) ∈ lw_all := lw_g (lw_at lw_m6 41 rfl) rfl
theorem q1346 : (Jvm.Cond.instanceMethod ({ cls := "NobodysBard", name := "rate", desc := "()I" } : Jvm.MethodName)) ∈ lw_all := lw_g (lw_at lw_m6 43 rfl) rfl
theorem q1347 : (Jvm.Cond.selects "NobodysBard" ({ cls := "NobodysBard", name := "rate", desc := "()I" } : Jvm.MethodName) ({ cls := "NobodysBard", name := "rate", desc := "()I" } : Jvm.MethodName)) ∈ lw_all := lw_g (lw_at lw_m6 44 rfl) rfl
theorem q1348 : (Jvm.Cond.code ({ cls := "NobodysBard", name := "rate", desc := "()I" } : Jvm.MethodName) prog_1_method_73_code (5 : Nat) (Option.some Jvm.ClassFile.FieldType.int)) ∈ lw_all := lw_g (lw_at lw_m6 45 rfl) rfl
theorem q1349 : (Jvm.Cond.methodLink "NobodysBard" (475 : Nat) ({ cls := "NobodysBard", name := "isFree", desc := "(I)Z" } : Jvm.MethodName)) ∈ lw_all := lw_g (lw_at lw_m6 46 rfl) rfl
theorem q1350 : (Jvm.Cond.privateMethod ({ cls := "NobodysBard", name := "isFree", desc := "(I)Z" } : Jvm.MethodName)) ∈ lw_tbl := lw_at lw_m6 47 rfl
theorem q1351 : (Jvm.Cond.instanceMethod ({ cls := "NobodysBard", name := "isFree", desc := "(I)Z" } : Jvm.MethodName)) ∈ lw_all := lw_g (lw_at lw_m6 48 rfl) rfl
theorem q1352 : (Jvm.Cond.code ({ cls := "NobodysBard", name := "isFree", desc := "(I)Z" } : Jvm.MethodName) prog_1_method_72_code (3 : Nat) (Option.some Jvm.ClassFile.FieldType.boolean)) ∈ lw_all := lw_g (lw_at lw_m6 49 rfl) rfl
theorem q1354 : (Jvm.Cond.instanceMethod ({ cls := "NobodysBard", name := "world", desc := "(I)I" } : Jvm.MethodName)) ∈ lw_all := lw_g (lw_at lw_m6 51 rfl) rfl
theorem q1355 : (Jvm.Cond.selects "NobodysBard" ({ cls := "NobodysBard", name := "world", desc := "(I)I" } : Jvm.MethodName) ({ cls := "NobodysBard", name := "world", desc := "(I)I" } : Jvm.MethodName)) ∈ lw_all := lw_g (lw_at lw_m6 52 rfl) rfl
theorem q1356 : (Jvm.Cond.code ({ cls := "NobodysBard", name := "world", desc := "(I)I" } : Jvm.MethodName) prog_1_method_74_code (3 : Nat) (Option.some Jvm.ClassFile.FieldType.int)) ∈ lw_all := lw_g (lw_at lw_m6 53 rfl) rfl
theorem q1358 : (Jvm.Cond.instanceMethod ({ cls := "NobodysBard", name := "says", desc := "(III)I" } : Jvm.MethodName)) ∈ lw_all := lw_g (lw_at lw_m6 55 rfl) rfl
theorem q1359 : (Jvm.Cond.selects "NobodysBard" ({ cls := "NobodysBard", name := "says", desc := "(III)I" } : Jvm.MethodName) ({ cls := "NobodysBard", name := "says", desc := "(III)I" } : Jvm.MethodName)) ∈ lw_all := lw_g (lw_at lw_m6 56 rfl) rfl
theorem q1360 : (Jvm.Cond.code ({ cls := "NobodysBard", name := "says", desc := "(III)I" } : Jvm.MethodName) prog_1_method_75_code (5 : Nat) (Option.some Jvm.ClassFile.FieldType.int)) ∈ lw_all := lw_g (lw_at lw_m6 57 rfl) rfl
theorem q1362 : (Jvm.Cond.instanceMethod ({ cls := "NobodysBard", name := "ask", desc := "(II)I" } : Jvm.MethodName)) ∈ lw_all := lw_g (lw_at lw_m6 59 rfl) rfl
theorem q1363 : (Jvm.Cond.selects "NobodysBard" ({ cls := "NobodysBard", name := "ask", desc := "(II)I" } : Jvm.MethodName) ({ cls := "NobodysBard", name := "ask", desc := "(II)I" } : Jvm.MethodName)) ∈ lw_all := lw_g (lw_at lw_m6 60 rfl) rfl
theorem q1364 : (Jvm.Cond.code ({ cls := "NobodysBard", name := "ask", desc := "(II)I" } : Jvm.MethodName) prog_1_method_78_code (4 : Nat) (Option.some Jvm.ClassFile.FieldType.int)) ∈ lw_all := lw_g (lw_at lw_m6 61 rfl) rfl
theorem q1365 : (Jvm.Cond.methodLink "NobodysBard" (491 : Nat) ({ cls := "NobodysBard", name := "layCost", desc := "(I)V" } : Jvm.MethodName)) ∈ lw_all := lw_g (lw_at lw_m6 62 rfl) rfl
theorem q1366 : (Jvm.Cond.privateMethod ({ cls := "NobodysBard", name := "layCost", desc := "(I)V" } : Jvm.MethodName)) ∈ lw_tbl := lw_at lw_m6 63 rfl
theorem q1367 : (Jvm.Cond.instanceMethod ({ cls := "NobodysBard", name := "layCost", desc := "(I)V" } : Jvm.MethodName)) ∈ lw_all := lw_g (lw_at lw_m6 64 rfl) rfl
theorem q1368 : (Jvm.Cond.code ({ cls := "NobodysBard", name := "layCost", desc := "(I)V" } : Jvm.MethodName) prog_1_method_77_code (8 : Nat) (Option.none : Option Jvm.ClassFile.FieldType)) ∈ lw_all := lw_g (lw_at lw_m6 65 rfl) rfl
theorem q1369 : (Jvm.Cond.methodLink "NobodysBard" (487 : Nat) ({ cls := "NobodysBard", name := "saying", desc := "(III)I" } : Jvm.MethodName)) ∈ lw_all := lw_g (lw_at lw_m6 66 rfl) rfl
theorem q1370 : (Jvm.Cond.privateMethod ({ cls := "NobodysBard", name := "saying", desc := "(III)I" } : Jvm.MethodName)) ∈ lw_tbl := lw_at lw_m6 67 rfl
theorem q1371 : (Jvm.Cond.instanceMethod ({ cls := "NobodysBard", name := "saying", desc := "(III)I" } : Jvm.MethodName)) ∈ lw_all := lw_g (lw_at lw_m6 68 rfl) rfl
theorem q1372 : (Jvm.Cond.code ({ cls := "NobodysBard", name := "saying", desc := "(III)I" } : Jvm.MethodName) prog_1_method_76_code (6 : Nat) (Option.some Jvm.ClassFile.FieldType.int)) ∈ lw_all := lw_g (lw_at lw_m6 69 rfl) rfl
theorem q1374 : (Jvm.Cond.instanceMethod ({ cls := "NobodysBard", name := "row", desc := "(III)I" } : Jvm.MethodName)) ∈ lw_all := lw_g (lw_at lw_m6 71 rfl) rfl
theorem q1375 : (Jvm.Cond.selects "NobodysBard" ({ cls := "NobodysBard", name := "row", desc := "(III)I" } : Jvm.MethodName) ({ cls := "NobodysBard", name := "row", desc := "(III)I" } : Jvm.MethodName)) ∈ lw_all := lw_g (lw_at lw_m6 72 rfl) rfl
theorem q1376 : (Jvm.Cond.code ({ cls := "NobodysBard", name := "row", desc := "(III)I" } : Jvm.MethodName) prog_1_method_80_code (4 : Nat) (Option.some Jvm.ClassFile.FieldType.int)) ∈ lw_all := lw_g (lw_at lw_m6 73 rfl) rfl
theorem q1377 : (Jvm.Cond.methodLink "NobodysBard" (494 : Nat) ({ cls := "NobodysBard", name := "isRow", desc := "(I)Z" } : Jvm.MethodName)) ∈ lw_all := lw_g (lw_at lw_m6 74 rfl) rfl
theorem q1378 : (Jvm.Cond.static ({ cls := "NobodysBard", name := "isRow", desc := "(I)Z" } : Jvm.MethodName)) ∈ lw_all := lw_g (lw_at lw_m6 75 rfl) rfl
theorem q1379 : (Jvm.Cond.code ({ cls := "NobodysBard", name := "isRow", desc := "(I)Z" } : Jvm.MethodName) prog_1_method_79_code (1 : Nat) (Option.some Jvm.ClassFile.FieldType.boolean)) ∈ lw_all := lw_g (lw_at lw_m6 76 rfl) rfl
theorem q1380 : (Jvm.Cond.methodLink "NobodysBard" (497 : Nat) ({ cls := "NobodysBard$Row", name := "begins", desc := "(II)Z" } : Jvm.MethodName)) ∈ lw_all := lw_g (lw_at lw_m6 77 rfl) rfl
theorem q1470 : (Jvm.Cond.instanceMethod ({ cls := "NobodysBard", name := "write", desc := "(IIJ)J" } : Jvm.MethodName)) ∈ lw_all := lw_g (lw_at lw_m6 167 rfl) rfl
theorem q1471 : (Jvm.Cond.selects "NobodysBard" ({ cls := "NobodysBard", name := "write", desc := "(IIJ)J" } : Jvm.MethodName) ({ cls := "NobodysBard", name := "write", desc := "(IIJ)J" } : Jvm.MethodName)) ∈ lw_all := lw_g (lw_at lw_m6 168 rfl) rfl
theorem q1472 : (Jvm.Cond.codeWith ({ cls := "NobodysBard", name := "write", desc := "(IIJ)J" } : Jvm.MethodName) prog_1_method_81_code (6 : Nat) (Option.some Jvm.ClassFile.FieldType.long) [((15 : Nat), (36 : Nat), (37 : Nat), (509 : Nat)), ((15 : Nat), (36 : Nat), (47 : Nat), (511 : Nat))]) ∈ lw_all := lw_g (lw_at lw_m6 169 rfl) rfl
theorem q1473 : (Jvm.Cond.classLink "NobodysBard" (509 : Nat) "java/lang/NullPointerException") ∈ lw_all := lw_g (lw_at lw_m6 170 rfl) rfl
theorem q1498 : (Jvm.Cond.classLink "NobodysBard" (511 : Nat) "java/lang/ArrayIndexOutOfBoundsException") ∈ lw_all := lw_g (lw_at lw_m6 195 rfl) rfl
theorem q1517 : (Jvm.Cond.methodLink "NobodysBard" (501 : Nat) ({ cls := "NobodysBard$Row", name := "puts", desc := "(IJ)V" } : Jvm.MethodName)) ∈ lw_all := lw_g (lw_at lw_m6 214 rfl) rfl
theorem q1525 : (Jvm.Cond.methodLink "NobodysBard" (505 : Nat) ({ cls := "NobodysBard$Row", name := "number", desc := "(I)J" } : Jvm.MethodName)) ∈ lw_all := lw_g (lw_at lw_m6 222 rfl) rfl
theorem q1530 : (Jvm.Cond.instanceMethod ({ cls := "NobodysBard", name := "minister", desc := "(I)I" } : Jvm.MethodName)) ∈ lw_all := lw_g (lw_at lw_m6 227 rfl) rfl
theorem q1531 : (Jvm.Cond.selects "NobodysBard" ({ cls := "NobodysBard", name := "minister", desc := "(I)I" } : Jvm.MethodName) ({ cls := "NobodysBard", name := "minister", desc := "(I)I" } : Jvm.MethodName)) ∈ lw_all := lw_g (lw_at lw_m6 228 rfl) rfl
theorem q1532 : (Jvm.Cond.code ({ cls := "NobodysBard", name := "minister", desc := "(I)I" } : Jvm.MethodName) prog_1_method_82_code (5 : Nat) (Option.some Jvm.ClassFile.FieldType.int)) ∈ lw_all := lw_g (lw_at lw_m6 229 rfl) rfl
theorem q1533 : (Jvm.Cond.methodLink "NobodysBard" (517 : Nat) ({ cls := "NobodysBard$Row", name := "many", desc := "()I" } : Jvm.MethodName)) ∈ lw_all := lw_g (lw_at lw_m6 230 rfl) rfl
theorem q1538 : (Jvm.Cond.instanceMethod ({ cls := "NobodysBard", name := "say", desc := "(I)I" } : Jvm.MethodName)) ∈ lw_all := lw_g (lw_at lw_m6 235 rfl) rfl
theorem q1539 : (Jvm.Cond.selects "NobodysBard" ({ cls := "NobodysBard", name := "say", desc := "(I)I" } : Jvm.MethodName) ({ cls := "NobodysBard", name := "say", desc := "(I)I" } : Jvm.MethodName)) ∈ lw_all := lw_g (lw_at lw_m6 236 rfl) rfl
theorem q1540 : (Jvm.Cond.code ({ cls := "NobodysBard", name := "say", desc := "(I)I" } : Jvm.MethodName) prog_1_method_84_code (4 : Nat) (Option.some Jvm.ClassFile.FieldType.int)) ∈ lw_all := lw_g (lw_at lw_m6 237 rfl) rfl
theorem q1541 : (Jvm.Cond.methodLink "NobodysBard" (520 : Nat) ({ cls := "NobodysBard", name := "isInLate", desc := "(LNobodysBard$Phrase;)Z" } : Jvm.MethodName)) ∈ lw_all := lw_g (lw_at lw_m6 238 rfl) rfl
theorem q1542 : (Jvm.Cond.privateMethod ({ cls := "NobodysBard", name := "isInLate", desc := "(LNobodysBard$Phrase;)Z" } : Jvm.MethodName)) ∈ lw_tbl := lw_at lw_m6 239 rfl
theorem q1543 : (Jvm.Cond.instanceMethod ({ cls := "NobodysBard", name := "isInLate", desc := "(LNobodysBard$Phrase;)Z" } : Jvm.MethodName)) ∈ lw_all := lw_g (lw_at lw_m7 0 rfl) rfl
theorem q1544 : (Jvm.Cond.code ({ cls := "NobodysBard", name := "isInLate", desc := "(LNobodysBard$Phrase;)Z" } : Jvm.MethodName) prog_1_method_83_code (5 : Nat) (Option.some Jvm.ClassFile.FieldType.boolean)) ∈ lw_all := lw_g (lw_at lw_m7 1 rfl) rfl
theorem q1545 : (Jvm.Cond.interfaceEntry "NobodysBard" (523 : Nat)) ∈ lw_tbl := lw_at lw_m7 2 rfl
theorem q1546 : (Jvm.Cond.methodLink "NobodysBard" (523 : Nat) ({ cls := "NobodysBard$Comes", name := "said", desc := "()I" } : Jvm.MethodName)) ∈ lw_all := lw_g (lw_at lw_m7 3 rfl) rfl
theorem q1561 : (Jvm.Cond.instanceMethod ({ cls := "NobodysBard", name := "image", desc := "(I)I" } : Jvm.MethodName)) ∈ lw_all := lw_g (lw_at lw_m7 18 rfl) rfl
theorem q1562 : (Jvm.Cond.selects "NobodysBard" ({ cls := "NobodysBard", name := "image", desc := "(I)I" } : Jvm.MethodName) ({ cls := "NobodysBard", name := "image", desc := "(I)I" } : Jvm.MethodName)) ∈ lw_all := lw_g (lw_at lw_m7 19 rfl) rfl
theorem q1563 : (Jvm.Cond.code ({ cls := "NobodysBard", name := "image", desc := "(I)I" } : Jvm.MethodName) prog_1_method_85_code (2 : Nat) (Option.some Jvm.ClassFile.FieldType.int)) ∈ lw_all := lw_g (lw_at lw_m7 20 rfl) rfl
theorem q1564 : (Jvm.Cond.methodLink "NobodysBard" (525 : Nat) ({ cls := "NobodysBard$State", name := "copy", desc := "()LNobodysBard$State;" } : Jvm.MethodName)) ∈ lw_all := lw_g (lw_at lw_m7 21 rfl) rfl
theorem q1596 : (Jvm.Cond.instanceMethod ({ cls := "NobodysBard", name := "restore", desc := "(I)I" } : Jvm.MethodName)) ∈ lw_all := lw_g (lw_at lw_m7 53 rfl) rfl
theorem q1597 : (Jvm.Cond.selects "NobodysBard" ({ cls := "NobodysBard", name := "restore", desc := "(I)I" } : Jvm.MethodName) ({ cls := "NobodysBard", name := "restore", desc := "(I)I" } : Jvm.MethodName)) ∈ lw_all := lw_g (lw_at lw_m7 54 rfl) rfl
theorem q1598 : (Jvm.Cond.code ({ cls := "NobodysBard", name := "restore", desc := "(I)I" } : Jvm.MethodName) prog_1_method_86_code (2 : Nat) (Option.some Jvm.ClassFile.FieldType.int)) ∈ lw_all := lw_g (lw_at lw_m7 55 rfl) rfl
theorem q1600 : (Jvm.Cond.instanceMethod ({ cls := "NobodysBard", name := "status", desc := "(I)I" } : Jvm.MethodName)) ∈ lw_all := lw_g (lw_at lw_m7 57 rfl) rfl
theorem q1601 : (Jvm.Cond.selects "NobodysBard" ({ cls := "NobodysBard", name := "status", desc := "(I)I" } : Jvm.MethodName) ({ cls := "NobodysBard", name := "status", desc := "(I)I" } : Jvm.MethodName)) ∈ lw_all := lw_g (lw_at lw_m7 58 rfl) rfl
theorem q1602 : (Jvm.Cond.code ({ cls := "NobodysBard", name := "status", desc := "(I)I" } : Jvm.MethodName) prog_1_method_87_code (2 : Nat) (Option.some Jvm.ClassFile.FieldType.int)) ∈ lw_all := lw_g (lw_at lw_m7 59 rfl) rfl
theorem q1603 : (Jvm.Cond.constantLong "NobodysBard" (529 : Nat) (7 : Int64)) ∈ lw_all := lw_g (lw_at lw_m7 60 rfl) rfl
theorem q1605 : (Jvm.Cond.instanceMethod ({ cls := "NobodysBard", name := "count", desc := "(I)I" } : Jvm.MethodName)) ∈ lw_all := lw_g (lw_at lw_m7 62 rfl) rfl
theorem q1606 : (Jvm.Cond.selects "NobodysBard" ({ cls := "NobodysBard", name := "count", desc := "(I)I" } : Jvm.MethodName) ({ cls := "NobodysBard", name := "count", desc := "(I)I" } : Jvm.MethodName)) ∈ lw_all := lw_g (lw_at lw_m7 63 rfl) rfl
theorem q1607 : (Jvm.Cond.code ({ cls := "NobodysBard", name := "count", desc := "(I)I" } : Jvm.MethodName) prog_1_method_88_code (2 : Nat) (Option.some Jvm.ClassFile.FieldType.int)) ∈ lw_all := lw_g (lw_at lw_m7 64 rfl) rfl
theorem q2171 : (Jvm.Cond.castable "NobodysBard" "java/lang/Object") ∈ lw_tbl := lw_at lw_m9 148 rfl
theorem in_X0 : ∀ w ∈ wsX00, w ∈ lw_all := lw_in wsX00 [342, 344, 346, 348, 350, 352, 354, 356, 358, 360, 362, 364, 366, 368, 370, 372, 374, 376, 378, 380, 382, 384, 386] (by decide +kernel) (by decide +kernel)
