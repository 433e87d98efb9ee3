set_option maxRecDepth 100000
/-! RelicHouseLaw -/
def RX0 : String := "RelicHouseLaw"
abbrev cX0_house : ByteArray := method_3_code
def yX0_house : MethodName := ⟨RX0, "house", "(LRelicHouse;I[J)I"⟩
abbrev cX0_law : ByteArray := method_4_code
def yX0_law : MethodName := ⟨RX0, "law", "(LRelicHouse;I[J)I"⟩
abbrev cX0_work : ByteArray := method_5_code
def yX0_work : MethodName := ⟨RX0, "work", "(LRelicHouse;I[J)I"⟩
abbrev cX0_seen : ByteArray := method_6_code
def yX0_seen : MethodName := ⟨RX0, "seen", "(LRelicHouse;I[J)I"⟩
abbrev cX0_told : ByteArray := method_7_code
def yX0_told : MethodName := ⟨RX0, "told", "(LRelicHouse;I[J)I"⟩
abbrev cX0_sister : ByteArray := method_8_code
def yX0_sister : MethodName := ⟨RX0, "sister", "(LRelicHouse;II[J)I"⟩
abbrev cX0_relic : ByteArray := method_9_code
def yX0_relic : MethodName := ⟨RX0, "relic", "(LRelicHouse;II[J)I"⟩
abbrev cX0_pilgrim : ByteArray := method_10_code
def yX0_pilgrim : MethodName := ⟨RX0, "pilgrim", "(LRelicHouse;II[J)I"⟩
abbrev cX0_would : ByteArray := method_11_code
def yX0_would : MethodName := ⟨RX0, "would", "(LRelicHouse;IIIIIIII[J)I"⟩
abbrev cX0_can : ByteArray := method_12_code
def yX0_can : MethodName := ⟨RX0, "can", "(LRelicHouse;II[J)I"⟩
abbrev cX0_when : ByteArray := method_13_code
def yX0_when : MethodName := ⟨RX0, "when", "(LRelicHouse;II[J)I"⟩
abbrev cX0_ahead : ByteArray := method_14_code
def yX0_ahead : MethodName := ⟨RX0, "ahead", "(LRelicHouse;III[J)I"⟩
abbrev cX0_matched : ByteArray := method_15_code
def yX0_matched : MethodName := ⟨RX0, "matched", "(LRelicHouse;I[J)I"⟩
abbrev cX0_lapsed : ByteArray := method_16_code
def yX0_lapsed : MethodName := ⟨RX0, "lapsed", "(LRelicHouse;I[J)I"⟩
abbrev cX0_ask : ByteArray := method_17_code
def yX0_ask : MethodName := ⟨RX0, "ask", "(LRelicHouse;I[J)I"⟩
abbrev cX0_best : ByteArray := method_18_code
def yX0_best : MethodName := ⟨RX0, "best", "(LRelicHouse;III[J)I"⟩
abbrev cX0_without : ByteArray := method_19_code
def yX0_without : MethodName := ⟨RX0, "without", "(LRelicHouse;III[J)I"⟩
abbrev cX0_ring : ByteArray := method_20_code
def yX0_ring : MethodName := ⟨RX0, "ring", "(LRelicHouse;I[J)I"⟩
abbrev cX0_follows : ByteArray := method_21_code
def yX0_follows : MethodName := ⟨RX0, "follows", "(LRelicHouse;II[J)I"⟩
abbrev cX0_tempted : ByteArray := method_22_code
def yX0_tempted : MethodName := ⟨RX0, "tempted", "(LRelicHouse;III[J)I"⟩
abbrev cX0_alms : ByteArray := method_23_code
def yX0_alms : MethodName := ⟨RX0, "alms", "(LRelicHouse;III[J)I"⟩
abbrev cX0_strongest : ByteArray := method_24_code
def yX0_strongest : MethodName := ⟨RX0, "strongest", "(LRelicHouse;I[J)I"⟩
abbrev cX0_hopeless : ByteArray := method_25_code
def yX0_hopeless : MethodName := ⟨RX0, "hopeless", "(LRelicHouse;I[J)I"⟩
abbrev cX0_eldest : ByteArray := method_26_code
def yX0_eldest : MethodName := ⟨RX0, "eldest", "(LRelicHouse;I[J)I"⟩
abbrev cX0_needs : ByteArray := method_27_code
def yX0_needs : MethodName := ⟨RX0, "needs", "(LRelicHouse;I[J)I"⟩
abbrev cX0_strength : ByteArray := method_28_code
def yX0_strength : MethodName := ⟨RX0, "strength", "(LRelicHouse;I[J)I"⟩
abbrev cX0_weakest : ByteArray := method_29_code
def yX0_weakest : MethodName := ⟨RX0, "weakest", "(LRelicHouse;I[J)I"⟩
abbrev cX0_year : ByteArray := method_30_code
def yX0_year : MethodName := ⟨RX0, "year", "(LRelicHouse;III[J)I"⟩
abbrev cX0_span : ByteArray := method_31_code
def yX0_span : MethodName := ⟨RX0, "span", "(LRelicHouse;IIIII[J)I"⟩
theorem q99 : (Jvm.Cond.initialized "RelicHouseLaw") ∈ lw_all := lw_g (lw_at lw_m1 0 rfl) rfl
theorem q153 : (Jvm.Cond.classLink "RelicHouseLaw" (8 : Nat) "RelicHouse") ∈ lw_all := lw_g (lw_at lw_m1 54 rfl) rfl
theorem q155 : (Jvm.Cond.methodLink "RelicHouseLaw" (107 : Nat) ({ cls := "RelicHouse", name := "<init>", desc := "()V" } : Jvm.MethodName)) ∈ lw_all := lw_g (lw_at lw_m1 56 rfl) rfl
theorem q736 : (Jvm.Cond.methodLink "RelicHouseLaw" (111 : Nat) ({ cls := "RelicHouse", name := "feed", desc := "(IIIII)I" } : Jvm.MethodName)) ∈ lw_all := lw_g (lw_at lw_m3 157 rfl) rfl
theorem q744 : (Jvm.Cond.methodLink "RelicHouseLaw" (134 : Nat) ({ cls := "RelicHouse", name := "fault", desc := "()I" } : Jvm.MethodName)) ∈ lw_all := lw_g (lw_at lw_m3 165 rfl) rfl
theorem q748 : (Jvm.Cond.methodLink "RelicHouseLaw" (138 : Nat) ({ cls := "RelicHouse", name := "undo", desc := "()I" } : Jvm.MethodName)) ∈ lw_all := lw_g (lw_at lw_m3 169 rfl) rfl
theorem q757 : (Jvm.Cond.methodLink "RelicHouseLaw" (203 : Nat) ({ cls := "RelicHouse", name := "bare", desc := "()I" } : Jvm.MethodName)) ∈ lw_all := lw_g (lw_at lw_m3 178 rfl) rfl
theorem q788 : (Jvm.Cond.methodLink "RelicHouseLaw" (213 : Nat) ({ cls := "RelicHouse", name := "idle", desc := "()I" } : Jvm.MethodName)) ∈ lw_all := lw_g (lw_at lw_m3 209 rfl) rfl
theorem q812 : (Jvm.Cond.methodLink "RelicHouseLaw" (169 : Nat) ({ cls := "RelicHouse", name := "match", desc := "()I" } : Jvm.MethodName)) ∈ lw_all := lw_g (lw_at lw_m3 233 rfl) rfl
theorem q903 : (Jvm.Cond.methodLink "RelicHouseLaw" (233 : Nat) ({ cls := "RelicHouse", name := "image", desc := "()I" } : Jvm.MethodName)) ∈ lw_all := lw_g (lw_at lw_m4 84 rfl) rfl
theorem q911 : (Jvm.Cond.methodLink "RelicHouseLaw" (237 : Nat) ({ cls := "RelicHouse", name := "restore", desc := "()I" } : Jvm.MethodName)) ∈ lw_all := lw_g (lw_at lw_m4 92 rfl) rfl
theorem q915 : (Jvm.Cond.methodLink "RelicHouseLaw" (241 : Nat) ({ cls := "RelicHouse", name := "status", desc := "(I)I" } : Jvm.MethodName)) ∈ lw_all := lw_g (lw_at lw_m4 96 rfl) rfl
theorem q922 : (Jvm.Cond.methodLink "RelicHouseLaw" (245 : Nat) ({ cls := "RelicHouse", name := "count", desc := "(I)I" } : Jvm.MethodName)) ∈ lw_all := lw_g (lw_at lw_m4 103 rfl) rfl
theorem q926 : (Jvm.Cond.methodLink "RelicHouseLaw" (115 : Nat) ({ cls := "RelicHouseLaw", name := "house", desc := "(LRelicHouse;I[J)I" } : Jvm.MethodName)) ∈ lw_all := lw_g (lw_at lw_m4 107 rfl) rfl
theorem q927 : (Jvm.Cond.static ({ cls := "RelicHouseLaw", name := "house", desc := "(LRelicHouse;I[J)I" } : Jvm.MethodName)) ∈ lw_all := lw_g (lw_at lw_m4 108 rfl) rfl
theorem q928 : (Jvm.Cond.codeWith ({ cls := "RelicHouseLaw", name := "house", desc := "(LRelicHouse;I[J)I" } : Jvm.MethodName) method_3_code (4 : Nat) (Option.some Jvm.ClassFile.FieldType.int) [((0 : Nat), (9 : Nat), (12 : Nat), (13 : Nat))]) ∈ lw_all := lw_g (lw_at lw_m4 109 rfl) rfl
theorem q929 : (Jvm.Cond.classLink "RelicHouseLaw" (13 : Nat) "java/lang/IllegalArgumentException") ∈ lw_all := lw_g (lw_at lw_m4 110 rfl) rfl
theorem q930 : (Jvm.Cond.methodLink "RelicHouseLaw" (7 : Nat) ({ cls := "RelicHouse", name := "house", desc := "(I)I" } : Jvm.MethodName)) ∈ lw_all := lw_g (lw_at lw_m4 111 rfl) rfl
theorem q1290 : (Jvm.Cond.methodLink "RelicHouseLaw" (125 : Nat) ({ cls := "RelicHouseLaw", name := "law", desc := "(LRelicHouse;I[J)I" } : Jvm.MethodName)) ∈ lw_all := lw_g (lw_at lw_m5 231 rfl) rfl
theorem q1291 : (Jvm.Cond.static ({ cls := "RelicHouseLaw", name := "law", desc := "(LRelicHouse;I[J)I" } : Jvm.MethodName)) ∈ lw_all := lw_g (lw_at lw_m5 232 rfl) rfl
theorem q1292 : (Jvm.Cond.codeWith ({ cls := "RelicHouseLaw", name := "law", desc := "(LRelicHouse;I[J)I" } : Jvm.MethodName) method_4_code (4 : Nat) (Option.some Jvm.ClassFile.FieldType.int) [((0 : Nat), (9 : Nat), (12 : Nat), (13 : Nat))]) ∈ lw_all := lw_g (lw_at lw_m5 233 rfl) rfl
theorem q1293 : (Jvm.Cond.methodLink "RelicHouseLaw" (15 : Nat) ({ cls := "RelicHouse", name := "law", desc := "(I)I" } : Jvm.MethodName)) ∈ lw_all := lw_g (lw_at lw_m5 234 rfl) rfl
theorem q1413 : (Jvm.Cond.methodLink "RelicHouseLaw" (128 : Nat) ({ cls := "RelicHouseLaw", name := "work", desc := "(LRelicHouse;I[J)I" } : Jvm.MethodName)) ∈ lw_all := lw_g (lw_at lw_m6 114 rfl) rfl
theorem q1414 : (Jvm.Cond.static ({ cls := "RelicHouseLaw", name := "work", desc := "(LRelicHouse;I[J)I" } : Jvm.MethodName)) ∈ lw_all := lw_g (lw_at lw_m6 115 rfl) rfl
theorem q1415 : (Jvm.Cond.codeWith ({ cls := "RelicHouseLaw", name := "work", desc := "(LRelicHouse;I[J)I" } : Jvm.MethodName) method_5_code (4 : Nat) (Option.some Jvm.ClassFile.FieldType.int) [((0 : Nat), (9 : Nat), (12 : Nat), (13 : Nat))]) ∈ lw_all := lw_g (lw_at lw_m6 116 rfl) rfl
theorem q1416 : (Jvm.Cond.methodLink "RelicHouseLaw" (18 : Nat) ({ cls := "RelicHouse", name := "work", desc := "(I)I" } : Jvm.MethodName)) ∈ lw_all := lw_g (lw_at lw_m6 117 rfl) rfl
theorem q1649 : (Jvm.Cond.methodLink "RelicHouseLaw" (131 : Nat) ({ cls := "RelicHouseLaw", name := "seen", desc := "(LRelicHouse;I[J)I" } : Jvm.MethodName)) ∈ lw_all := lw_g (lw_at lw_m7 110 rfl) rfl
theorem q1650 : (Jvm.Cond.static ({ cls := "RelicHouseLaw", name := "seen", desc := "(LRelicHouse;I[J)I" } : Jvm.MethodName)) ∈ lw_all := lw_g (lw_at lw_m7 111 rfl) rfl
theorem q1651 : (Jvm.Cond.codeWith ({ cls := "RelicHouseLaw", name := "seen", desc := "(LRelicHouse;I[J)I" } : Jvm.MethodName) method_6_code (4 : Nat) (Option.some Jvm.ClassFile.FieldType.int) [((0 : Nat), (9 : Nat), (12 : Nat), (13 : Nat))]) ∈ lw_all := lw_g (lw_at lw_m7 112 rfl) rfl
theorem q1652 : (Jvm.Cond.methodLink "RelicHouseLaw" (21 : Nat) ({ cls := "RelicHouse", name := "seen", desc := "(I)I" } : Jvm.MethodName)) ∈ lw_all := lw_g (lw_at lw_m7 113 rfl) rfl
theorem q1694 : (Jvm.Cond.methodLink "RelicHouseLaw" (142 : Nat) ({ cls := "RelicHouseLaw", name := "told", desc := "(LRelicHouse;I[J)I" } : Jvm.MethodName)) ∈ lw_all := lw_g (lw_at lw_m7 155 rfl) rfl
theorem q1695 : (Jvm.Cond.static ({ cls := "RelicHouseLaw", name := "told", desc := "(LRelicHouse;I[J)I" } : Jvm.MethodName)) ∈ lw_all := lw_g (lw_at lw_m7 156 rfl) rfl
theorem q1696 : (Jvm.Cond.codeWith ({ cls := "RelicHouseLaw", name := "told", desc := "(LRelicHouse;I[J)I" } : Jvm.MethodName) method_7_code (4 : Nat) (Option.some Jvm.ClassFile.FieldType.int) [((0 : Nat), (9 : Nat), (12 : Nat), (13 : Nat))]) ∈ lw_all := lw_g (lw_at lw_m7 157 rfl) rfl
theorem q1697 : (Jvm.Cond.methodLink "RelicHouseLaw" (24 : Nat) ({ cls := "RelicHouse", name := "told", desc := "(I)I" } : Jvm.MethodName)) ∈ lw_all := lw_g (lw_at lw_m7 158 rfl) rfl
theorem q1714 : (Jvm.Cond.methodLink "RelicHouseLaw" (145 : Nat) ({ cls := "RelicHouseLaw", name := "sister", desc := "(LRelicHouse;II[J)I" } : Jvm.MethodName)) ∈ lw_all := lw_g (lw_at lw_m7 175 rfl) rfl
theorem q1715 : (Jvm.Cond.static ({ cls := "RelicHouseLaw", name := "sister", desc := "(LRelicHouse;II[J)I" } : Jvm.MethodName)) ∈ lw_all := lw_g (lw_at lw_m7 176 rfl) rfl
theorem q1716 : (Jvm.Cond.codeWith ({ cls := "RelicHouseLaw", name := "sister", desc := "(LRelicHouse;II[J)I" } : Jvm.MethodName) method_8_code (5 : Nat) (Option.some Jvm.ClassFile.FieldType.int) [((0 : Nat), (10 : Nat), (13 : Nat), (31 : Nat)), ((0 : Nat), (10 : Nat), (17 : Nat), (13 : Nat))]) ∈ lw_all := lw_g (lw_at lw_m7 177 rfl) rfl
theorem q1717 : (Jvm.Cond.classLink "RelicHouseLaw" (31 : Nat) "java/util/NoSuchElementException") ∈ lw_all := lw_g (lw_at lw_m7 178 rfl) rfl
theorem q1718 : (Jvm.Cond.methodLink "RelicHouseLaw" (27 : Nat) ({ cls := "RelicHouse", name := "sister", desc := "(II)I" } : Jvm.MethodName)) ∈ lw_all := lw_g (lw_at lw_m7 179 rfl) rfl
theorem q1746 : (Jvm.Cond.methodLink "RelicHouseLaw" (149 : Nat) ({ cls := "RelicHouseLaw", name := "relic", desc := "(LRelicHouse;II[J)I" } : Jvm.MethodName)) ∈ lw_all := lw_g (lw_at lw_m7 207 rfl) rfl
theorem q1747 : (Jvm.Cond.static ({ cls := "RelicHouseLaw", name := "relic", desc := "(LRelicHouse;II[J)I" } : Jvm.MethodName)) ∈ lw_all := lw_g (lw_at lw_m7 208 rfl) rfl
theorem q1748 : (Jvm.Cond.codeWith ({ cls := "RelicHouseLaw", name := "relic", desc := "(LRelicHouse;II[J)I" } : Jvm.MethodName) method_9_code (5 : Nat) (Option.some Jvm.ClassFile.FieldType.int) [((0 : Nat), (10 : Nat), (13 : Nat), (31 : Nat)), ((0 : Nat), (10 : Nat), (17 : Nat), (13 : Nat))]) ∈ lw_all := lw_g (lw_at lw_m7 209 rfl) rfl
theorem q1749 : (Jvm.Cond.methodLink "RelicHouseLaw" (33 : Nat) ({ cls := "RelicHouse", name := "relic", desc := "(II)I" } : Jvm.MethodName)) ∈ lw_all := lw_g (lw_at lw_m7 210 rfl) rfl
theorem q1763 : (Jvm.Cond.methodLink "RelicHouseLaw" (152 : Nat) ({ cls := "RelicHouseLaw", name := "pilgrim", desc := "(LRelicHouse;II[J)I" } : Jvm.MethodName)) ∈ lw_all := lw_g (lw_at lw_m7 224 rfl) rfl
theorem q1764 : (Jvm.Cond.static ({ cls := "RelicHouseLaw", name := "pilgrim", desc := "(LRelicHouse;II[J)I" } : Jvm.MethodName)) ∈ lw_all := lw_g (lw_at lw_m7 225 rfl) rfl
theorem q1765 : (Jvm.Cond.codeWith ({ cls := "RelicHouseLaw", name := "pilgrim", desc := "(LRelicHouse;II[J)I" } : Jvm.MethodName) method_10_code (5 : Nat) (Option.some Jvm.ClassFile.FieldType.int) [((0 : Nat), (10 : Nat), (13 : Nat), (31 : Nat)), ((0 : Nat), (10 : Nat), (17 : Nat), (13 : Nat))]) ∈ lw_all := lw_g (lw_at lw_m7 226 rfl) rfl
theorem q1766 : (Jvm.Cond.methodLink "RelicHouseLaw" (36 : Nat) ({ cls := "RelicHouse", name := "pilgrim", desc := "(II)I" } : Jvm.MethodName)) ∈ lw_all := lw_g (lw_at lw_m7 227 rfl) rfl
theorem q1778 : (Jvm.Cond.methodLink "RelicHouseLaw" (155 : Nat) ({ cls := "RelicHouseLaw", name := "would", desc := "(LRelicHouse;IIIIIIII[J)I" } : Jvm.MethodName)) ∈ lw_all := lw_g (lw_at lw_m7 239 rfl) rfl
theorem q1779 : (Jvm.Cond.static ({ cls := "RelicHouseLaw", name := "would", desc := "(LRelicHouse;IIIIIIII[J)I" } : Jvm.MethodName)) ∈ lw_all := lw_g (lw_at lw_m8 0 rfl) rfl
theorem q1780 : (Jvm.Cond.codeWith ({ cls := "RelicHouseLaw", name := "would", desc := "(LRelicHouse;IIIIIIII[J)I" } : Jvm.MethodName) method_11_code (11 : Nat) (Option.some Jvm.ClassFile.FieldType.int) [((0 : Nat), (22 : Nat), (25 : Nat), (13 : Nat))]) ∈ lw_all := lw_g (lw_at lw_m8 1 rfl) rfl
theorem q1781 : (Jvm.Cond.methodLink "RelicHouseLaw" (39 : Nat) ({ cls := "RelicHouse", name := "would", desc := "(IIIIIIII)I" } : Jvm.MethodName)) ∈ lw_all := lw_g (lw_at lw_m8 2 rfl) rfl
theorem q1786 : (Jvm.Cond.methodLink "RelicHouseLaw" (159 : Nat) ({ cls := "RelicHouseLaw", name := "can", desc := "(LRelicHouse;II[J)I" } : Jvm.MethodName)) ∈ lw_all := lw_g (lw_at lw_m8 7 rfl) rfl
theorem q1787 : (Jvm.Cond.static ({ cls := "RelicHouseLaw", name := "can", desc := "(LRelicHouse;II[J)I" } : Jvm.MethodName)) ∈ lw_all := lw_g (lw_at lw_m8 8 rfl) rfl
theorem q1788 : (Jvm.Cond.codeWith ({ cls := "RelicHouseLaw", name := "can", desc := "(LRelicHouse;II[J)I" } : Jvm.MethodName) method_12_code (5 : Nat) (Option.some Jvm.ClassFile.FieldType.int) [((0 : Nat), (17 : Nat), (20 : Nat), (31 : Nat))]) ∈ lw_all := lw_g (lw_at lw_m8 9 rfl) rfl
theorem q1789 : (Jvm.Cond.methodLink "RelicHouseLaw" (43 : Nat) ({ cls := "RelicHouse", name := "can", desc := "(II)Z" } : Jvm.MethodName)) ∈ lw_all := lw_g (lw_at lw_m8 10 rfl) rfl
theorem q1793 : (Jvm.Cond.methodLink "RelicHouseLaw" (162 : Nat) ({ cls := "RelicHouseLaw", name := "when", desc := "(LRelicHouse;II[J)I" } : Jvm.MethodName)) ∈ lw_all := lw_g (lw_at lw_m8 14 rfl) rfl
theorem q1794 : (Jvm.Cond.static ({ cls := "RelicHouseLaw", name := "when", desc := "(LRelicHouse;II[J)I" } : Jvm.MethodName)) ∈ lw_all := lw_g (lw_at lw_m8 15 rfl) rfl
theorem q1795 : (Jvm.Cond.codeWith ({ cls := "RelicHouseLaw", name := "when", desc := "(LRelicHouse;II[J)I" } : Jvm.MethodName) method_13_code (5 : Nat) (Option.some Jvm.ClassFile.FieldType.int) [((0 : Nat), (10 : Nat), (13 : Nat), (31 : Nat))]) ∈ lw_all := lw_g (lw_at lw_m8 16 rfl) rfl
theorem q1796 : (Jvm.Cond.methodLink "RelicHouseLaw" (47 : Nat) ({ cls := "RelicHouse", name := "when", desc := "(II)I" } : Jvm.MethodName)) ∈ lw_all := lw_g (lw_at lw_m8 17 rfl) rfl
theorem q1801 : (Jvm.Cond.methodLink "RelicHouseLaw" (165 : Nat) ({ cls := "RelicHouseLaw", name := "ahead", desc := "(LRelicHouse;III[J)I" } : Jvm.MethodName)) ∈ lw_all := lw_g (lw_at lw_m8 22 rfl) rfl
theorem q1802 : (Jvm.Cond.static ({ cls := "RelicHouseLaw", name := "ahead", desc := "(LRelicHouse;III[J)I" } : Jvm.MethodName)) ∈ lw_all := lw_g (lw_at lw_m8 23 rfl) rfl
theorem q1803 : (Jvm.Cond.codeWith ({ cls := "RelicHouseLaw", name := "ahead", desc := "(LRelicHouse;III[J)I" } : Jvm.MethodName) method_14_code (6 : Nat) (Option.some Jvm.ClassFile.FieldType.int) [((0 : Nat), (12 : Nat), (15 : Nat), (31 : Nat)), ((0 : Nat), (12 : Nat), (19 : Nat), (13 : Nat))]) ∈ lw_all := lw_g (lw_at lw_m8 24 rfl) rfl
theorem q1804 : (Jvm.Cond.methodLink "RelicHouseLaw" (50 : Nat) ({ cls := "RelicHouse", name := "ahead", desc := "(III)I" } : Jvm.MethodName)) ∈ lw_all := lw_g (lw_at lw_m8 25 rfl) rfl
theorem q1809 : (Jvm.Cond.methodLink "RelicHouseLaw" (173 : Nat) ({ cls := "RelicHouseLaw", name := "matched", desc := "(LRelicHouse;I[J)I" } : Jvm.MethodName)) ∈ lw_all := lw_g (lw_at lw_m8 30 rfl) rfl
theorem q1810 : (Jvm.Cond.static ({ cls := "RelicHouseLaw", name := "matched", desc := "(LRelicHouse;I[J)I" } : Jvm.MethodName)) ∈ lw_all := lw_g (lw_at lw_m8 31 rfl) rfl
theorem q1811 : (Jvm.Cond.codeWith ({ cls := "RelicHouseLaw", name := "matched", desc := "(LRelicHouse;I[J)I" } : Jvm.MethodName) method_15_code (4 : Nat) (Option.some Jvm.ClassFile.FieldType.int) [((0 : Nat), (9 : Nat), (12 : Nat), (31 : Nat))]) ∈ lw_all := lw_g (lw_at lw_m8 32 rfl) rfl
theorem q1812 : (Jvm.Cond.methodLink "RelicHouseLaw" (54 : Nat) ({ cls := "RelicHouse", name := "matched", desc := "(I)I" } : Jvm.MethodName)) ∈ lw_all := lw_g (lw_at lw_m8 33 rfl) rfl
theorem q1816 : (Jvm.Cond.methodLink "RelicHouseLaw" (176 : Nat) ({ cls := "RelicHouseLaw", name := "lapsed", desc := "(LRelicHouse;I[J)I" } : Jvm.MethodName)) ∈ lw_all := lw_g (lw_at lw_m8 37 rfl) rfl
theorem q1817 : (Jvm.Cond.static ({ cls := "RelicHouseLaw", name := "lapsed", desc := "(LRelicHouse;I[J)I" } : Jvm.MethodName)) ∈ lw_all := lw_g (lw_at lw_m8 38 rfl) rfl
theorem q1818 : (Jvm.Cond.codeWith ({ cls := "RelicHouseLaw", name := "lapsed", desc := "(LRelicHouse;I[J)I" } : Jvm.MethodName) method_16_code (4 : Nat) (Option.some Jvm.ClassFile.FieldType.int) [((0 : Nat), (9 : Nat), (12 : Nat), (13 : Nat))]) ∈ lw_all := lw_g (lw_at lw_m8 39 rfl) rfl
theorem q1819 : (Jvm.Cond.methodLink "RelicHouseLaw" (57 : Nat) ({ cls := "RelicHouse", name := "lapsed", desc := "(I)I" } : Jvm.MethodName)) ∈ lw_all := lw_g (lw_at lw_m8 40 rfl) rfl
theorem q1836 : (Jvm.Cond.methodLink "RelicHouseLaw" (179 : Nat) ({ cls := "RelicHouseLaw", name := "ask", desc := "(LRelicHouse;I[J)I" } : Jvm.MethodName)) ∈ lw_all := lw_g (lw_at lw_m8 57 rfl) rfl
theorem q1837 : (Jvm.Cond.static ({ cls := "RelicHouseLaw", name := "ask", desc := "(LRelicHouse;I[J)I" } : Jvm.MethodName)) ∈ lw_all := lw_g (lw_at lw_m8 58 rfl) rfl
theorem q1838 : (Jvm.Cond.codeWith ({ cls := "RelicHouseLaw", name := "ask", desc := "(LRelicHouse;I[J)I" } : Jvm.MethodName) method_17_code (4 : Nat) (Option.some Jvm.ClassFile.FieldType.int) [((0 : Nat), (9 : Nat), (12 : Nat), (13 : Nat))]) ∈ lw_all := lw_g (lw_at lw_m8 59 rfl) rfl
theorem q1839 : (Jvm.Cond.methodLink "RelicHouseLaw" (60 : Nat) ({ cls := "RelicHouse", name := "ask", desc := "(I)I" } : Jvm.MethodName)) ∈ lw_all := lw_g (lw_at lw_m8 60 rfl) rfl
theorem q1847 : (Jvm.Cond.methodLink "RelicHouseLaw" (182 : Nat) ({ cls := "RelicHouseLaw", name := "best", desc := "(LRelicHouse;III[J)I" } : Jvm.MethodName)) ∈ lw_all := lw_g (lw_at lw_m8 68 rfl) rfl
theorem q1848 : (Jvm.Cond.static ({ cls := "RelicHouseLaw", name := "best", desc := "(LRelicHouse;III[J)I" } : Jvm.MethodName)) ∈ lw_all := lw_g (lw_at lw_m8 69 rfl) rfl
theorem q1849 : (Jvm.Cond.codeWith ({ cls := "RelicHouseLaw", name := "best", desc := "(LRelicHouse;III[J)I" } : Jvm.MethodName) method_18_code (6 : Nat) (Option.some Jvm.ClassFile.FieldType.int) [((0 : Nat), (11 : Nat), (14 : Nat), (31 : Nat)), ((0 : Nat), (11 : Nat), (18 : Nat), (13 : Nat))]) ∈ lw_all := lw_g (lw_at lw_m8 70 rfl) rfl
theorem q1850 : (Jvm.Cond.methodLink "RelicHouseLaw" (63 : Nat) ({ cls := "RelicHouse", name := "best", desc := "(III)J" } : Jvm.MethodName)) ∈ lw_all := lw_g (lw_at lw_m8 71 rfl) rfl
theorem q1868 : (Jvm.Cond.methodLink "RelicHouseLaw" (185 : Nat) ({ cls := "RelicHouseLaw", name := "without", desc := "(LRelicHouse;III[J)I" } : Jvm.MethodName)) ∈ lw_all := lw_g (lw_at lw_m8 89 rfl) rfl
theorem q1869 : (Jvm.Cond.static ({ cls := "RelicHouseLaw", name := "without", desc := "(LRelicHouse;III[J)I" } : Jvm.MethodName)) ∈ lw_all := lw_g (lw_at lw_m8 90 rfl) rfl
theorem q1870 : (Jvm.Cond.codeWith ({ cls := "RelicHouseLaw", name := "without", desc := "(LRelicHouse;III[J)I" } : Jvm.MethodName) method_19_code (6 : Nat) (Option.some Jvm.ClassFile.FieldType.int) [((0 : Nat), (11 : Nat), (14 : Nat), (31 : Nat)), ((0 : Nat), (11 : Nat), (18 : Nat), (13 : Nat))]) ∈ lw_all := lw_g (lw_at lw_m8 91 rfl) rfl
theorem q1871 : (Jvm.Cond.methodLink "RelicHouseLaw" (67 : Nat) ({ cls := "RelicHouse", name := "without", desc := "(III)J" } : Jvm.MethodName)) ∈ lw_all := lw_g (lw_at lw_m8 92 rfl) rfl
theorem q1875 : (Jvm.Cond.methodLink "RelicHouseLaw" (188 : Nat) ({ cls := "RelicHouseLaw", name := "ring", desc := "(LRelicHouse;I[J)I" } : Jvm.MethodName)) ∈ lw_all := lw_g (lw_at lw_m8 96 rfl) rfl
theorem q1876 : (Jvm.Cond.static ({ cls := "RelicHouseLaw", name := "ring", desc := "(LRelicHouse;I[J)I" } : Jvm.MethodName)) ∈ lw_all := lw_g (lw_at lw_m8 97 rfl) rfl
theorem q1877 : (Jvm.Cond.codeWith ({ cls := "RelicHouseLaw", name := "ring", desc := "(LRelicHouse;I[J)I" } : Jvm.MethodName) method_20_code (4 : Nat) (Option.some Jvm.ClassFile.FieldType.int) [((0 : Nat), (9 : Nat), (12 : Nat), (31 : Nat))]) ∈ lw_all := lw_g (lw_at lw_m8 98 rfl) rfl
theorem q1878 : (Jvm.Cond.methodLink "RelicHouseLaw" (70 : Nat) ({ cls := "RelicHouse", name := "ring", desc := "(I)I" } : Jvm.MethodName)) ∈ lw_all := lw_g (lw_at lw_m8 99 rfl) rfl
theorem q1882 : (Jvm.Cond.methodLink "RelicHouseLaw" (191 : Nat) ({ cls := "RelicHouseLaw", name := "follows", desc := "(LRelicHouse;II[J)I" } : Jvm.MethodName)) ∈ lw_all := lw_g (lw_at lw_m8 103 rfl) rfl
theorem q1883 : (Jvm.Cond.static ({ cls := "RelicHouseLaw", name := "follows", desc := "(LRelicHouse;II[J)I" } : Jvm.MethodName)) ∈ lw_all := lw_g (lw_at lw_m8 104 rfl) rfl
theorem q1884 : (Jvm.Cond.codeWith ({ cls := "RelicHouseLaw", name := "follows", desc := "(LRelicHouse;II[J)I" } : Jvm.MethodName) method_21_code (5 : Nat) (Option.some Jvm.ClassFile.FieldType.int) [((0 : Nat), (10 : Nat), (13 : Nat), (31 : Nat)), ((0 : Nat), (10 : Nat), (17 : Nat), (13 : Nat))]) ∈ lw_all := lw_g (lw_at lw_m8 105 rfl) rfl
theorem q1885 : (Jvm.Cond.methodLink "RelicHouseLaw" (73 : Nat) ({ cls := "RelicHouse", name := "follows", desc := "(II)I" } : Jvm.MethodName)) ∈ lw_all := lw_g (lw_at lw_m8 106 rfl) rfl
theorem q1890 : (Jvm.Cond.methodLink "RelicHouseLaw" (194 : Nat) ({ cls := "RelicHouseLaw", name := "tempted", desc := "(LRelicHouse;III[J)I" } : Jvm.MethodName)) ∈ lw_all := lw_g (lw_at lw_m8 111 rfl) rfl
theorem q1891 : (Jvm.Cond.static ({ cls := "RelicHouseLaw", name := "tempted", desc := "(LRelicHouse;III[J)I" } : Jvm.MethodName)) ∈ lw_all := lw_g (lw_at lw_m8 112 rfl) rfl
theorem q1892 : (Jvm.Cond.codeWith ({ cls := "RelicHouseLaw", name := "tempted", desc := "(LRelicHouse;III[J)I" } : Jvm.MethodName) method_22_code (6 : Nat) (Option.some Jvm.ClassFile.FieldType.int) [((0 : Nat), (12 : Nat), (15 : Nat), (13 : Nat))]) ∈ lw_all := lw_g (lw_at lw_m8 113 rfl) rfl
theorem q1893 : (Jvm.Cond.methodLink "RelicHouseLaw" (76 : Nat) ({ cls := "RelicHouse", name := "tempted", desc := "(III)I" } : Jvm.MethodName)) ∈ lw_all := lw_g (lw_at lw_m8 114 rfl) rfl
theorem q1900 : (Jvm.Cond.methodLink "RelicHouseLaw" (197 : Nat) ({ cls := "RelicHouseLaw", name := "alms", desc := "(LRelicHouse;III[J)I" } : Jvm.MethodName)) ∈ lw_all := lw_g (lw_at lw_m8 121 rfl) rfl
theorem q1901 : (Jvm.Cond.static ({ cls := "RelicHouseLaw", name := "alms", desc := "(LRelicHouse;III[J)I" } : Jvm.MethodName)) ∈ lw_all := lw_g (lw_at lw_m8 122 rfl) rfl
theorem q1902 : (Jvm.Cond.codeWith ({ cls := "RelicHouseLaw", name := "alms", desc := "(LRelicHouse;III[J)I" } : Jvm.MethodName) method_23_code (6 : Nat) (Option.some Jvm.ClassFile.FieldType.int) [((0 : Nat), (12 : Nat), (15 : Nat), (31 : Nat)), ((0 : Nat), (12 : Nat), (19 : Nat), (13 : Nat))]) ∈ lw_all := lw_g (lw_at lw_m8 123 rfl) rfl
theorem q1903 : (Jvm.Cond.methodLink "RelicHouseLaw" (79 : Nat) ({ cls := "RelicHouse", name := "alms", desc := "(III)I" } : Jvm.MethodName)) ∈ lw_all := lw_g (lw_at lw_m8 124 rfl) rfl
theorem q1911 : (Jvm.Cond.methodLink "RelicHouseLaw" (200 : Nat) ({ cls := "RelicHouseLaw", name := "strongest", desc := "(LRelicHouse;I[J)I" } : Jvm.MethodName)) ∈ lw_all := lw_g (lw_at lw_m8 132 rfl) rfl
theorem q1912 : (Jvm.Cond.static ({ cls := "RelicHouseLaw", name := "strongest", desc := "(LRelicHouse;I[J)I" } : Jvm.MethodName)) ∈ lw_all := lw_g (lw_at lw_m8 133 rfl) rfl
theorem q1913 : (Jvm.Cond.codeWith ({ cls := "RelicHouseLaw", name := "strongest", desc := "(LRelicHouse;I[J)I" } : Jvm.MethodName) method_24_code (4 : Nat) (Option.some Jvm.ClassFile.FieldType.int) [((0 : Nat), (9 : Nat), (12 : Nat), (13 : Nat))]) ∈ lw_all := lw_g (lw_at lw_m8 134 rfl) rfl
theorem q1914 : (Jvm.Cond.methodLink "RelicHouseLaw" (82 : Nat) ({ cls := "RelicHouse", name := "strongest", desc := "(I)I" } : Jvm.MethodName)) ∈ lw_all := lw_g (lw_at lw_m8 135 rfl) rfl
theorem q1918 : (Jvm.Cond.methodLink "RelicHouseLaw" (207 : Nat) ({ cls := "RelicHouseLaw", name := "hopeless", desc := "(LRelicHouse;I[J)I" } : Jvm.MethodName)) ∈ lw_all := lw_g (lw_at lw_m8 139 rfl) rfl
theorem q1919 : (Jvm.Cond.static ({ cls := "RelicHouseLaw", name := "hopeless", desc := "(LRelicHouse;I[J)I" } : Jvm.MethodName)) ∈ lw_all := lw_g (lw_at lw_m8 140 rfl) rfl
theorem q1920 : (Jvm.Cond.codeWith ({ cls := "RelicHouseLaw", name := "hopeless", desc := "(LRelicHouse;I[J)I" } : Jvm.MethodName) method_25_code (4 : Nat) (Option.some Jvm.ClassFile.FieldType.int) [((0 : Nat), (9 : Nat), (12 : Nat), (13 : Nat))]) ∈ lw_all := lw_g (lw_at lw_m8 141 rfl) rfl
theorem q1921 : (Jvm.Cond.methodLink "RelicHouseLaw" (85 : Nat) ({ cls := "RelicHouse", name := "hopeless", desc := "(I)I" } : Jvm.MethodName)) ∈ lw_all := lw_g (lw_at lw_m8 142 rfl) rfl
theorem q1925 : (Jvm.Cond.methodLink "RelicHouseLaw" (210 : Nat) ({ cls := "RelicHouseLaw", name := "eldest", desc := "(LRelicHouse;I[J)I" } : Jvm.MethodName)) ∈ lw_all := lw_g (lw_at lw_m8 146 rfl) rfl
theorem q1926 : (Jvm.Cond.static ({ cls := "RelicHouseLaw", name := "eldest", desc := "(LRelicHouse;I[J)I" } : Jvm.MethodName)) ∈ lw_all := lw_g (lw_at lw_m8 147 rfl) rfl
theorem q1927 : (Jvm.Cond.codeWith ({ cls := "RelicHouseLaw", name := "eldest", desc := "(LRelicHouse;I[J)I" } : Jvm.MethodName) method_26_code (4 : Nat) (Option.some Jvm.ClassFile.FieldType.int) [((0 : Nat), (9 : Nat), (12 : Nat), (13 : Nat))]) ∈ lw_all := lw_g (lw_at lw_m8 148 rfl) rfl
theorem q1928 : (Jvm.Cond.methodLink "RelicHouseLaw" (88 : Nat) ({ cls := "RelicHouse", name := "eldest", desc := "(I)I" } : Jvm.MethodName)) ∈ lw_all := lw_g (lw_at lw_m8 149 rfl) rfl
theorem q1932 : (Jvm.Cond.methodLink "RelicHouseLaw" (217 : Nat) ({ cls := "RelicHouseLaw", name := "needs", desc := "(LRelicHouse;I[J)I" } : Jvm.MethodName)) ∈ lw_all := lw_g (lw_at lw_m8 153 rfl) rfl
theorem q1933 : (Jvm.Cond.static ({ cls := "RelicHouseLaw", name := "needs", desc := "(LRelicHouse;I[J)I" } : Jvm.MethodName)) ∈ lw_all := lw_g (lw_at lw_m8 154 rfl) rfl
theorem q1934 : (Jvm.Cond.codeWith ({ cls := "RelicHouseLaw", name := "needs", desc := "(LRelicHouse;I[J)I" } : Jvm.MethodName) method_27_code (4 : Nat) (Option.some Jvm.ClassFile.FieldType.int) [((0 : Nat), (9 : Nat), (12 : Nat), (13 : Nat))]) ∈ lw_all := lw_g (lw_at lw_m8 155 rfl) rfl
theorem q1935 : (Jvm.Cond.methodLink "RelicHouseLaw" (91 : Nat) ({ cls := "RelicHouse", name := "needs", desc := "(I)I" } : Jvm.MethodName)) ∈ lw_all := lw_g (lw_at lw_m8 156 rfl) rfl
theorem q1939 : (Jvm.Cond.methodLink "RelicHouseLaw" (220 : Nat) ({ cls := "RelicHouseLaw", name := "strength", desc := "(LRelicHouse;I[J)I" } : Jvm.MethodName)) ∈ lw_all := lw_g (lw_at lw_m8 160 rfl) rfl
theorem q1940 : (Jvm.Cond.static ({ cls := "RelicHouseLaw", name := "strength", desc := "(LRelicHouse;I[J)I" } : Jvm.MethodName)) ∈ lw_all := lw_g (lw_at lw_m8 161 rfl) rfl
theorem q1941 : (Jvm.Cond.codeWith ({ cls := "RelicHouseLaw", name := "strength", desc := "(LRelicHouse;I[J)I" } : Jvm.MethodName) method_28_code (4 : Nat) (Option.some Jvm.ClassFile.FieldType.int) [((0 : Nat), (9 : Nat), (12 : Nat), (31 : Nat))]) ∈ lw_all := lw_g (lw_at lw_m8 162 rfl) rfl
theorem q1942 : (Jvm.Cond.methodLink "RelicHouseLaw" (94 : Nat) ({ cls := "RelicHouse", name := "strength", desc := "(I)I" } : Jvm.MethodName)) ∈ lw_all := lw_g (lw_at lw_m8 163 rfl) rfl
theorem q1946 : (Jvm.Cond.methodLink "RelicHouseLaw" (223 : Nat) ({ cls := "RelicHouseLaw", name := "weakest", desc := "(LRelicHouse;I[J)I" } : Jvm.MethodName)) ∈ lw_all := lw_g (lw_at lw_m8 167 rfl) rfl
theorem q1947 : (Jvm.Cond.static ({ cls := "RelicHouseLaw", name := "weakest", desc := "(LRelicHouse;I[J)I" } : Jvm.MethodName)) ∈ lw_all := lw_g (lw_at lw_m8 168 rfl) rfl
theorem q1948 : (Jvm.Cond.codeWith ({ cls := "RelicHouseLaw", name := "weakest", desc := "(LRelicHouse;I[J)I" } : Jvm.MethodName) method_29_code (4 : Nat) (Option.some Jvm.ClassFile.FieldType.int) [((0 : Nat), (9 : Nat), (12 : Nat), (13 : Nat))]) ∈ lw_all := lw_g (lw_at lw_m8 169 rfl) rfl
theorem q1949 : (Jvm.Cond.methodLink "RelicHouseLaw" (97 : Nat) ({ cls := "RelicHouse", name := "weakest", desc := "(I)I" } : Jvm.MethodName)) ∈ lw_all := lw_g (lw_at lw_m8 170 rfl) rfl
theorem q1953 : (Jvm.Cond.methodLink "RelicHouseLaw" (226 : Nat) ({ cls := "RelicHouseLaw", name := "year", desc := "(LRelicHouse;III[J)I" } : Jvm.MethodName)) ∈ lw_all := lw_g (lw_at lw_m8 174 rfl) rfl
theorem q1954 : (Jvm.Cond.static ({ cls := "RelicHouseLaw", name := "year", desc := "(LRelicHouse;III[J)I" } : Jvm.MethodName)) ∈ lw_all := lw_g (lw_at lw_m8 175 rfl) rfl
theorem q1955 : (Jvm.Cond.codeWith ({ cls := "RelicHouseLaw", name := "year", desc := "(LRelicHouse;III[J)I" } : Jvm.MethodName) method_30_code (6 : Nat) (Option.some Jvm.ClassFile.FieldType.int) [((0 : Nat), (12 : Nat), (15 : Nat), (13 : Nat))]) ∈ lw_all := lw_g (lw_at lw_m8 176 rfl) rfl
theorem q1956 : (Jvm.Cond.methodLink "RelicHouseLaw" (100 : Nat) ({ cls := "RelicHouse", name := "year", desc := "(III)I" } : Jvm.MethodName)) ∈ lw_all := lw_g (lw_at lw_m8 177 rfl) rfl
theorem q1970 : (Jvm.Cond.methodLink "RelicHouseLaw" (229 : Nat) ({ cls := "RelicHouseLaw", name := "span", desc := "(LRelicHouse;IIIII[J)I" } : Jvm.MethodName)) ∈ lw_all := lw_g (lw_at lw_m8 191 rfl) rfl
theorem q1971 : (Jvm.Cond.static ({ cls := "RelicHouseLaw", name := "span", desc := "(LRelicHouse;IIIII[J)I" } : Jvm.MethodName)) ∈ lw_all := lw_g (lw_at lw_m8 192 rfl) rfl
theorem q1972 : (Jvm.Cond.codeWith ({ cls := "RelicHouseLaw", name := "span", desc := "(LRelicHouse;IIIII[J)I" } : Jvm.MethodName) method_31_code (8 : Nat) (Option.some Jvm.ClassFile.FieldType.int) [((0 : Nat), (16 : Nat), (19 : Nat), (13 : Nat))]) ∈ lw_all := lw_g (lw_at lw_m8 193 rfl) rfl
theorem q1973 : (Jvm.Cond.methodLink "RelicHouseLaw" (103 : Nat) ({ cls := "RelicHouse", name := "span", desc := "(IIIII)I" } : Jvm.MethodName)) ∈ lw_all := lw_g (lw_at lw_m8 194 rfl) rfl
theorem q1977 : (Jvm.Cond.classLink "RelicHouseLaw" (108 : Nat) "RelicHouseModel") ∈ lw_all := lw_g (lw_at lw_m8 198 rfl) rfl
theorem q1979 : (Jvm.Cond.methodLink "RelicHouseLaw" (110 : Nat) ({ cls := "RelicHouseModel", name := "<init>", desc := "()V" } : Jvm.MethodName)) ∈ lw_all := lw_g (lw_at lw_m8 200 rfl) rfl
theorem q2144 : (Jvm.Cond.methodLink "RelicHouseLaw" (121 : Nat) ({ cls := "RelicHouseModel", name := "thrown", desc := "()I" } : Jvm.MethodName)) ∈ lw_all := lw_g (lw_at lw_m9 125 rfl) rfl
theorem q2148 : (Jvm.Cond.methodLink "RelicHouseLaw" (114 : Nat) ({ cls := "RelicHouseModel", name := "feed", desc := "(IIIII)I" } : Jvm.MethodName)) ∈ lw_all := lw_g (lw_at lw_m9 129 rfl) rfl
theorem q2152 : (Jvm.Cond.methodLink "RelicHouseLaw" (120 : Nat) ({ cls := "RelicHouseModel", name := "house", desc := "(I)I" } : Jvm.MethodName)) ∈ lw_all := lw_g (lw_at lw_m9 133 rfl) rfl
theorem q2228 : (Jvm.Cond.methodLink "RelicHouseLaw" (127 : Nat) ({ cls := "RelicHouseModel", name := "law", desc := "(I)I" } : Jvm.MethodName)) ∈ lw_all := lw_g (lw_at lw_m9 209 rfl) rfl
theorem q2268 : (Jvm.Cond.methodLink "RelicHouseLaw" (133 : Nat) ({ cls := "RelicHouseModel", name := "seen", desc := "(I)I" } : Jvm.MethodName)) ∈ lw_all := lw_g (lw_at lw_m10 9 rfl) rfl
theorem q2275 : (Jvm.Cond.methodLink "RelicHouseLaw" (137 : Nat) ({ cls := "RelicHouseModel", name := "fault", desc := "()I" } : Jvm.MethodName)) ∈ lw_all := lw_g (lw_at lw_m10 16 rfl) rfl
theorem q2279 : (Jvm.Cond.methodLink "RelicHouseLaw" (130 : Nat) ({ cls := "RelicHouseModel", name := "work", desc := "(I)I" } : Jvm.MethodName)) ∈ lw_all := lw_g (lw_at lw_m10 20 rfl) rfl
theorem q2361 : (Jvm.Cond.methodLink "RelicHouseLaw" (141 : Nat) ({ cls := "RelicHouseModel", name := "undo", desc := "()I" } : Jvm.MethodName)) ∈ lw_all := lw_g (lw_at lw_m10 102 rfl) rfl
theorem q2365 : (Jvm.Cond.methodLink "RelicHouseLaw" (144 : Nat) ({ cls := "RelicHouseModel", name := "told", desc := "(I)I" } : Jvm.MethodName)) ∈ lw_all := lw_g (lw_at lw_m10 106 rfl) rfl
theorem q2377 : (Jvm.Cond.methodLink "RelicHouseLaw" (148 : Nat) ({ cls := "RelicHouseModel", name := "sister", desc := "(II)I" } : Jvm.MethodName)) ∈ lw_all := lw_g (lw_at lw_m10 118 rfl) rfl
theorem q2385 : (Jvm.Cond.methodLink "RelicHouseLaw" (151 : Nat) ({ cls := "RelicHouseModel", name := "relic", desc := "(II)I" } : Jvm.MethodName)) ∈ lw_all := lw_g (lw_at lw_m10 126 rfl) rfl
theorem q2393 : (Jvm.Cond.methodLink "RelicHouseLaw" (154 : Nat) ({ cls := "RelicHouseModel", name := "pilgrim", desc := "(II)I" } : Jvm.MethodName)) ∈ lw_all := lw_g (lw_at lw_m10 134 rfl) rfl
theorem q2401 : (Jvm.Cond.methodLink "RelicHouseLaw" (158 : Nat) ({ cls := "RelicHouseModel", name := "would", desc := "(IIIIIIII)I" } : Jvm.MethodName)) ∈ lw_all := lw_g (lw_at lw_m10 142 rfl) rfl
theorem q2405 : (Jvm.Cond.methodLink "RelicHouseLaw" (161 : Nat) ({ cls := "RelicHouseModel", name := "can", desc := "(II)Z" } : Jvm.MethodName)) ∈ lw_all := lw_g (lw_at lw_m10 146 rfl) rfl
theorem q2409 : (Jvm.Cond.methodLink "RelicHouseLaw" (164 : Nat) ({ cls := "RelicHouseModel", name := "when", desc := "(II)I" } : Jvm.MethodName)) ∈ lw_all := lw_g (lw_at lw_m10 150 rfl) rfl
theorem q2413 : (Jvm.Cond.methodLink "RelicHouseLaw" (168 : Nat) ({ cls := "RelicHouseModel", name := "ahead", desc := "(III)I" } : Jvm.MethodName)) ∈ lw_all := lw_g (lw_at lw_m10 154 rfl) rfl
theorem q2417 : (Jvm.Cond.methodLink "RelicHouseLaw" (209 : Nat) ({ cls := "RelicHouseModel", name := "hopeless", desc := "(I)I" } : Jvm.MethodName)) ∈ lw_all := lw_g (lw_at lw_m10 158 rfl) rfl
theorem q2421 : (Jvm.Cond.methodLink "RelicHouseLaw" (172 : Nat) ({ cls := "RelicHouseModel", name := "match", desc := "()I" } : Jvm.MethodName)) ∈ lw_all := lw_g (lw_at lw_m10 162 rfl) rfl
theorem q2433 : (Jvm.Cond.methodLink "RelicHouseLaw" (175 : Nat) ({ cls := "RelicHouseModel", name := "matched", desc := "(I)I" } : Jvm.MethodName)) ∈ lw_all := lw_g (lw_at lw_m10 174 rfl) rfl
theorem q2437 : (Jvm.Cond.methodLink "RelicHouseLaw" (178 : Nat) ({ cls := "RelicHouseModel", name := "lapsed", desc := "(I)I" } : Jvm.MethodName)) ∈ lw_all := lw_g (lw_at lw_m10 178 rfl) rfl
theorem q2449 : (Jvm.Cond.methodLink "RelicHouseLaw" (181 : Nat) ({ cls := "RelicHouseModel", name := "ask", desc := "(I)I" } : Jvm.MethodName)) ∈ lw_all := lw_g (lw_at lw_m10 190 rfl) rfl
theorem q2457 : (Jvm.Cond.methodLink "RelicHouseLaw" (184 : Nat) ({ cls := "RelicHouseModel", name := "best", desc := "(III)J" } : Jvm.MethodName)) ∈ lw_all := lw_g (lw_at lw_m10 198 rfl) rfl
theorem q2468 : (Jvm.Cond.methodLink "RelicHouseLaw" (187 : Nat) ({ cls := "RelicHouseModel", name := "without", desc := "(III)J" } : Jvm.MethodName)) ∈ lw_all := lw_g (lw_at lw_m10 209 rfl) rfl
theorem q2472 : (Jvm.Cond.methodLink "RelicHouseLaw" (190 : Nat) ({ cls := "RelicHouseModel", name := "ring", desc := "(I)I" } : Jvm.MethodName)) ∈ lw_all := lw_g (lw_at lw_m10 213 rfl) rfl
theorem q2480 : (Jvm.Cond.methodLink "RelicHouseLaw" (193 : Nat) ({ cls := "RelicHouseModel", name := "follows", desc := "(II)I" } : Jvm.MethodName)) ∈ lw_all := lw_g (lw_at lw_m10 221 rfl) rfl
theorem q2485 : (Jvm.Cond.methodLink "RelicHouseLaw" (196 : Nat) ({ cls := "RelicHouseModel", name := "tempted", desc := "(III)I" } : Jvm.MethodName)) ∈ lw_all := lw_g (lw_at lw_m10 226 rfl) rfl
theorem q2495 : (Jvm.Cond.methodLink "RelicHouseLaw" (199 : Nat) ({ cls := "RelicHouseModel", name := "alms", desc := "(III)I" } : Jvm.MethodName)) ∈ lw_all := lw_g (lw_at lw_m10 236 rfl) rfl
theorem q2503 : (Jvm.Cond.methodLink "RelicHouseLaw" (202 : Nat) ({ cls := "RelicHouseModel", name := "strongest", desc := "(I)I" } : Jvm.MethodName)) ∈ lw_all := lw_g (lw_at lw_m11 4 rfl) rfl
theorem q2507 : (Jvm.Cond.methodLink "RelicHouseLaw" (212 : Nat) ({ cls := "RelicHouseModel", name := "eldest", desc := "(I)I" } : Jvm.MethodName)) ∈ lw_all := lw_g (lw_at lw_m11 8 rfl) rfl
theorem q2511 : (Jvm.Cond.methodLink "RelicHouseLaw" (216 : Nat) ({ cls := "RelicHouseModel", name := "idle", desc := "()I" } : Jvm.MethodName)) ∈ lw_all := lw_g (lw_at lw_m11 12 rfl) rfl
theorem q2515 : (Jvm.Cond.methodLink "RelicHouseLaw" (219 : Nat) ({ cls := "RelicHouseModel", name := "needs", desc := "(I)I" } : Jvm.MethodName)) ∈ lw_all := lw_g (lw_at lw_m11 16 rfl) rfl
theorem q2519 : (Jvm.Cond.methodLink "RelicHouseLaw" (222 : Nat) ({ cls := "RelicHouseModel", name := "strength", desc := "(I)I" } : Jvm.MethodName)) ∈ lw_all := lw_g (lw_at lw_m11 20 rfl) rfl
theorem q2523 : (Jvm.Cond.methodLink "RelicHouseLaw" (225 : Nat) ({ cls := "RelicHouseModel", name := "weakest", desc := "(I)I" } : Jvm.MethodName)) ∈ lw_all := lw_g (lw_at lw_m11 24 rfl) rfl
theorem q2527 : (Jvm.Cond.methodLink "RelicHouseLaw" (206 : Nat) ({ cls := "RelicHouseModel", name := "bare", desc := "()I" } : Jvm.MethodName)) ∈ lw_all := lw_g (lw_at lw_m11 28 rfl) rfl
theorem q2531 : (Jvm.Cond.methodLink "RelicHouseLaw" (228 : Nat) ({ cls := "RelicHouseModel", name := "year", desc := "(III)I" } : Jvm.MethodName)) ∈ lw_all := lw_g (lw_at lw_m11 32 rfl) rfl
theorem q2548 : (Jvm.Cond.methodLink "RelicHouseLaw" (232 : Nat) ({ cls := "RelicHouseModel", name := "span", desc := "(IIIII)I" } : Jvm.MethodName)) ∈ lw_all := lw_g (lw_at lw_m11 49 rfl) rfl
theorem q2552 : (Jvm.Cond.methodLink "RelicHouseLaw" (236 : Nat) ({ cls := "RelicHouseModel", name := "image", desc := "()I" } : Jvm.MethodName)) ∈ lw_all := lw_g (lw_at lw_m11 53 rfl) rfl
theorem q2564 : (Jvm.Cond.methodLink "RelicHouseLaw" (240 : Nat) ({ cls := "RelicHouseModel", name := "restore", desc := "()I" } : Jvm.MethodName)) ∈ lw_all := lw_g (lw_at lw_m11 65 rfl) rfl
theorem q2568 : (Jvm.Cond.methodLink "RelicHouseLaw" (244 : Nat) ({ cls := "RelicHouseModel", name := "status", desc := "(I)I" } : Jvm.MethodName)) ∈ lw_all := lw_g (lw_at lw_m11 69 rfl) rfl
theorem q2572 : (Jvm.Cond.methodLink "RelicHouseLaw" (248 : Nat) ({ cls := "RelicHouseModel", name := "count", desc := "(I)I" } : Jvm.MethodName)) ∈ lw_all := lw_g (lw_at lw_m11 73 rfl) rfl
/-! RelicHouse -/
def RX1 : String := "RelicHouse"
def TX1 : u_T := fun k => match k with
  | 0 => ("RelicHouse", "told", "LRelicHouse$Told;", false)
  | 1 => ("RelicHouse", "law", "LRelicHouse$Term;", false)
  | 2 => ("RelicHouse", "facts", "[I", true)
  | 3 => ("RelicHouse", "seenOf", "[I", true)
  | 4 => ("RelicHouse", "refused", "[I", true)
  | 5 => ("RelicHouse", "now", "LRelicHouse$House;", true)
  | 6 => ("RelicHouse", "probe", "LRelicHouse$House;", true)
  | 7 => ("RelicHouse", "past", "[LRelicHouse$House;", true)
  | 8 => ("RelicHouse", "images", "[LRelicHouse$House;", true)
  | 9 => ("RelicHouse", "imagePast", "[LRelicHouse$House;", true)
  | 10 => ("RelicHouse", "imageWorks", "[I", true)
  | 11 => ("RelicHouse", "works", "I", false)
  | 12 => ("RelicHouse", "refusedSteps", "I", false)
  | 13 => ("RelicHouse", "lineMany", "I", false)
  | 14 => ("RelicHouse", "seedNow", "I", false)
  | 15 => ("RelicHouse", "taped", "I", false)
  | 16 => ("RelicHouse", "faultAt", "I", false)
  | 17 => ("RelicHouse", "imageMany", "I", false)
  | 18 => ("RelicHouse", "tape", "[B", true)
  | 19 => ("RelicHouse", "mostOn", "[I", true)
  | 20 => ("RelicHouse", "bestRelic", "[I", true)
  | 21 => ("RelicHouse", "curers", "[I", true)
  | 22 => ("RelicHouse", "leftBy", "[I", true)
  | 23 => ("RelicHouse", "cureMany", "I", false)
  | _ => ("RelicHouse", "lapseMany", "I", false)
def tyX1 : Nat → FieldType := fun k => match k with
  | 0 => .object "RelicHouse$Told"
  | 1 => .object "RelicHouse$Term"
  | 2 => .array .int
  | 3 => .array .int
  | 4 => .array .int
  | 5 => .object "RelicHouse$House"
  | 6 => .object "RelicHouse$House"
  | 7 => .array (.object "RelicHouse$House")
  | 8 => .array (.object "RelicHouse$House")
  | 9 => .array (.object "RelicHouse$House")
  | 10 => .array .int
  | 11 => .int
  | 12 => .int
  | 13 => .int
  | 14 => .int
  | 15 => .int
  | 16 => .int
  | 17 => .int
  | 18 => .array .byte
  | 19 => .array .int
  | 20 => .array .int
  | 21 => .array .int
  | 22 => .array .int
  | 23 => .int
  | _ => .int
abbrev wsX10 : List Cond := u_ws RX1 TX1 25
theorem nmX1 : ∀ a, a < 25 → ∀ b, b < 25 → a ≠ b → (TX1 a).2.1 ≠ (TX1 b).2.1 := by decide +kernel
theorem tyX1_ok : ∀ k, k < 25 → parseFieldDescriptor (TX1 k).2.2.1 = some (tyX1 k) := by decide +kernel
abbrev cX1_init : ByteArray := prog_1_method_2_code
def yX1_init : MethodName := ⟨RX1, "<init>", "()V"⟩
abbrev cX1_custom : ByteArray := prog_1_method_1_code
def yX1_custom : MethodName := ⟨RX1, "custom", "()LRelicHouse$Term;"⟩
abbrev cX1_begins : ByteArray := prog_1_method_3_code
def yX1_begins : MethodName := ⟨RX1, "begins", "()V"⟩
abbrev cX1_feed : ByteArray := prog_1_method_17_code
def yX1_feed : MethodName := ⟨RX1, "feed", "(IIIII)I"⟩
abbrev cX1_put : ByteArray := prog_1_method_18_code
def yX1_put : MethodName := ⟨RX1, "put", "(I)V"⟩
abbrev cX1_fault : ByteArray := prog_1_method_24_code
def yX1_fault : MethodName := ⟨RX1, "fault", "()I"⟩
abbrev cX1_undo : ByteArray := prog_1_method_25_code
def yX1_undo : MethodName := ⟨RX1, "undo", "()I"⟩
abbrev cX1_bare : ByteArray := prog_1_method_38_code
def yX1_bare : MethodName := ⟨RX1, "bare", "()I"⟩
abbrev cX1_relics : ByteArray := prog_1_method_4_code
def yX1_relics : MethodName := ⟨RX1, "relics", "()I"⟩
abbrev cX1_relicOf : ByteArray := prog_1_method_6_code
def yX1_relicOf : MethodName := ⟨RX1, "relicOf", "(I)LRelicHouse$Relic;"⟩
abbrev cX1_idle : ByteArray := prog_1_method_40_code
def yX1_idle : MethodName := ⟨RX1, "idle", "()I"⟩
abbrev cX1_has : ByteArray := prog_1_method_16_code
def yX1_has : MethodName := ⟨RX1, "has", "(II)Z"⟩
abbrev cX1_match : ByteArray := prog_1_method_45_code
def yX1_match : MethodName := ⟨RX1, "match", "()I"⟩
abbrev cX1_findMatch : ByteArray := prog_1_method_44_code
def yX1_findMatch : MethodName := ⟨RX1, "findMatch", "()V"⟩
abbrev cX1_pilgrims : ByteArray := prog_1_method_5_code
def yX1_pilgrims : MethodName := ⟨RX1, "pilgrims", "()I"⟩
abbrev cX1_pilgrimOf : ByteArray := prog_1_method_7_code
def yX1_pilgrimOf : MethodName := ⟨RX1, "pilgrimOf", "(I)LRelicHouse$Pilgrim;"⟩
abbrev cX1_powerBy : ByteArray := prog_1_method_8_code
def yX1_powerBy : MethodName := ⟨RX1, "powerBy", "(IIIIIIII)I"⟩
abbrev cX1_image : ByteArray := prog_1_method_69_code
def yX1_image : MethodName := ⟨RX1, "image", "()I"⟩
abbrev cX1_kept : ByteArray := prog_1_method_68_code
def yX1_kept : MethodName := ⟨RX1, "kept", "([LRelicHouse$House;ILRelicHouse$House;)V"⟩
abbrev cX1_restore : ByteArray := prog_1_method_70_code
def yX1_restore : MethodName := ⟨RX1, "restore", "()I"⟩
abbrev cX1_status : ByteArray := prog_1_method_71_code
def yX1_status : MethodName := ⟨RX1, "status", "(I)I"⟩
abbrev cX1_isPart : ByteArray := prog_1_method_14_code
def yX1_isPart : MethodName := ⟨RX1, "isPart", "(I)Z"⟩
abbrev cX1_count : ByteArray := prog_1_method_72_code
def yX1_count : MethodName := ⟨RX1, "count", "(I)I"⟩
abbrev cX1_house : ByteArray := prog_1_method_20_code
def yX1_house : MethodName := ⟨RX1, "house", "(I)I"⟩
abbrev cX1_need : ByteArray := prog_1_method_9_code
def yX1_need : MethodName := ⟨RX1, "need", "(Z)V"⟩
abbrev cX1_failed : ByteArray := prog_1_method_19_code
def yX1_failed : MethodName := ⟨RX1, "failed", "(LRelicHouse$Wrong;)I"⟩
abbrev cX1_law : ByteArray := prog_1_method_21_code
def yX1_law : MethodName := ⟨RX1, "law", "(I)I"⟩
abbrev cX1_work : ByteArray := prog_1_method_22_code
def yX1_work : MethodName := ⟨RX1, "work", "(I)I"⟩
abbrev cX1_seen : ByteArray := prog_1_method_23_code
def yX1_seen : MethodName := ⟨RX1, "seen", "(I)I"⟩
abbrev cX1_told : ByteArray := prog_1_method_26_code
def yX1_told : MethodName := ⟨RX1, "told", "(I)I"⟩
abbrev cX1_isIn : ByteArray := prog_1_method_15_code
def yX1_isIn : MethodName := ⟨RX1, "isIn", "(III)Z"⟩
abbrev cX1_sister : ByteArray := prog_1_method_27_code
def yX1_sister : MethodName := ⟨RX1, "sister", "(II)I"⟩
abbrev cX1_needSister : ByteArray := prog_1_method_11_code
def yX1_needSister : MethodName := ⟨RX1, "needSister", "(I)V"⟩
abbrev cX1_needThere : ByteArray := prog_1_method_10_code
def yX1_needThere : MethodName := ⟨RX1, "needThere", "(II)V"⟩
abbrev cX1_relic : ByteArray := prog_1_method_29_code
def yX1_relic : MethodName := ⟨RX1, "relic", "(II)I"⟩
abbrev cX1_needRelic : ByteArray := prog_1_method_12_code
def yX1_needRelic : MethodName := ⟨RX1, "needRelic", "(I)V"⟩
abbrev cX1_curable : ByteArray := prog_1_method_28_code
def yX1_curable : MethodName := ⟨RX1, "curable", "(I)I"⟩
abbrev cX1_pilgrim : ByteArray := prog_1_method_31_code
def yX1_pilgrim : MethodName := ⟨RX1, "pilgrim", "(II)I"⟩
abbrev cX1_needPilgrim : ByteArray := prog_1_method_13_code
def yX1_needPilgrim : MethodName := ⟨RX1, "needPilgrim", "(I)V"⟩
abbrev cX1_able : ByteArray := prog_1_method_30_code
def yX1_able : MethodName := ⟨RX1, "able", "(LRelicHouse$House;II)I"⟩
abbrev cX1_would : ByteArray := prog_1_method_32_code
def yX1_would : MethodName := ⟨RX1, "would", "(IIIIIIII)I"⟩
abbrev cX1_can : ByteArray := prog_1_method_33_code
def yX1_can : MethodName := ⟨RX1, "can", "(II)Z"⟩
abbrev cX1_when : ByteArray := prog_1_method_34_code
def yX1_when : MethodName := ⟨RX1, "when", "(II)I"⟩
abbrev cX1_ahead : ByteArray := prog_1_method_35_code
def yX1_ahead : MethodName := ⟨RX1, "ahead", "(III)I"⟩
abbrev cX1_matched : ByteArray := prog_1_method_46_code
def yX1_matched : MethodName := ⟨RX1, "matched", "(I)I"⟩
abbrev cX1_lapsed : ByteArray := prog_1_method_50_code
def yX1_lapsed : MethodName := ⟨RX1, "lapsed", "(I)I"⟩
abbrev cX1_isSeen : ByteArray := prog_1_method_49_code
def yX1_isSeen : MethodName := ⟨RX1, "isSeen", "(I)Z"⟩
abbrev cX1_lapsable : ByteArray := prog_1_method_47_code
def yX1_lapsable : MethodName := ⟨RX1, "lapsable", "()I"⟩
abbrev cX1_powerIf : ByteArray := prog_1_method_48_code
def yX1_powerIf : MethodName := ⟨RX1, "powerIf", "(II)I"⟩
abbrev cX1_ask : ByteArray := prog_1_method_52_code
def yX1_ask : MethodName := ⟨RX1, "ask", "(I)I"⟩
abbrev cX1_worstAt : ByteArray := prog_1_method_51_code
def yX1_worstAt : MethodName := ⟨RX1, "worstAt", "(I)I"⟩
abbrev cX1_best : ByteArray := prog_1_method_56_code
def yX1_best : MethodName := ⟨RX1, "best", "(III)J"⟩
abbrev cX1_bestOn : ByteArray := prog_1_method_55_code
def yX1_bestOn : MethodName := ⟨RX1, "bestOn", "(IIIII)J"⟩
abbrev cX1_power : ByteArray := prog_1_method_54_code
def yX1_power : MethodName := ⟨RX1, "power", "(I)J"⟩
abbrev cX1_least : ByteArray := prog_1_method_53_code
def yX1_least : MethodName := ⟨RX1, "least", "(JJI)J"⟩
abbrev cX1_without : ByteArray := prog_1_method_57_code
def yX1_without : MethodName := ⟨RX1, "without", "(III)J"⟩
abbrev cX1_ring : ByteArray := prog_1_method_58_code
def yX1_ring : MethodName := ⟨RX1, "ring", "(I)I"⟩
abbrev cX1_follows : ByteArray := prog_1_method_59_code
def yX1_follows : MethodName := ⟨RX1, "follows", "(II)I"⟩
abbrev cX1_tempted : ByteArray := prog_1_method_61_code
def yX1_tempted : MethodName := ⟨RX1, "tempted", "(III)I"⟩
abbrev cX1_hasBy : ByteArray := prog_1_method_60_code
def yX1_hasBy : MethodName := ⟨RX1, "hasBy", "(IIII)I"⟩
abbrev cX1_alms : ByteArray := prog_1_method_63_code
def yX1_alms : MethodName := ⟨RX1, "alms", "(III)I"⟩
abbrev cX1_given : ByteArray := prog_1_method_62_code
def yX1_given : MethodName := ⟨RX1, "given", "(II)I"⟩
abbrev cX1_strongest : ByteArray := prog_1_method_37_code
def yX1_strongest : MethodName := ⟨RX1, "strongest", "(I)I"⟩
abbrev cX1_hopeless : ByteArray := prog_1_method_36_code
def yX1_hopeless : MethodName := ⟨RX1, "hopeless", "(I)I"⟩
abbrev cX1_eldest : ByteArray := prog_1_method_39_code
def yX1_eldest : MethodName := ⟨RX1, "eldest", "(I)I"⟩
abbrev cX1_needs : ByteArray := prog_1_method_41_code
def yX1_needs : MethodName := ⟨RX1, "needs", "(I)I"⟩
abbrev cX1_strength : ByteArray := prog_1_method_42_code
def yX1_strength : MethodName := ⟨RX1, "strength", "(I)I"⟩
abbrev cX1_weakest : ByteArray := prog_1_method_43_code
def yX1_weakest : MethodName := ⟨RX1, "weakest", "(I)I"⟩
abbrev cX1_year : ByteArray := prog_1_method_66_code
def yX1_year : MethodName := ⟨RX1, "year", "(III)I"⟩
abbrev cX1_yearBy : ByteArray := prog_1_method_65_code
def yX1_yearBy : MethodName := ⟨RX1, "yearBy", "(II)LRelicHouse$House;"⟩
abbrev cX1_draw : ByteArray := prog_1_method_64_code
def yX1_draw : MethodName := ⟨RX1, "draw", "(I)I"⟩
abbrev cX1_span : ByteArray := prog_1_method_67_code
def yX1_span : MethodName := ⟨RX1, "span", "(IIIII)I"⟩
theorem q100 : (Jvm.Cond.initialized "RelicHouse") ∈ lw_all := lw_g (lw_at lw_m1 1 rfl) rfl
theorem q154 : (Jvm.Cond.instantiable "RelicHouse" (25 : Nat)) ∈ lw_all := lw_g (lw_at lw_m1 55 rfl) rfl
theorem q156 : (Jvm.Cond.instanceMethod ({ cls := "RelicHouse", name := "<init>", desc := "()V" } : Jvm.MethodName)) ∈ lw_all := lw_g (lw_at lw_m1 57 rfl) rfl
theorem q157 : (Jvm.Cond.code ({ cls := "RelicHouse", name := "<init>", desc := "()V" } : Jvm.MethodName) prog_1_method_2_code (1 : Nat) (Option.none : Option Jvm.ClassFile.FieldType)) ∈ lw_all := lw_g (lw_at lw_m1 58 rfl) rfl
theorem q158 : (Jvm.Cond.methodLink "RelicHouse" (23 : Nat) ({ cls := "java/lang/Object", name := "<init>", desc := "()V" } : Jvm.MethodName)) ∈ lw_all := lw_g (lw_at lw_m1 59 rfl) rfl
theorem q161 : (Jvm.Cond.classLink "RelicHouse" (28 : Nat) "RelicHouse$Told") ∈ lw_all := lw_g (lw_at lw_m1 62 rfl) rfl
theorem q163 : (Jvm.Cond.methodLink "RelicHouse" (30 : Nat) ({ cls := "RelicHouse$Told", name := "<init>", desc := "()V" } : Jvm.MethodName)) ∈ lw_all := lw_g (lw_at lw_m1 64 rfl) rfl
theorem q513 : (Jvm.Cond.fieldLinkNest "RelicHouse" (276 : Nat) "RelicHouse$Told" "tempted" "[I" "RelicHouse") ∈ lw_tbl := lw_at lw_m2 174 rfl
theorem q516 : (Jvm.Cond.fieldLinkNest "RelicHouse" (285 : Nat) "RelicHouse$Told" "vow" "[I" "RelicHouse") ∈ lw_tbl := lw_at lw_m2 177 rfl
theorem q520 : (Jvm.Cond.fieldLinkNest "RelicHouse" (116 : Nat) "RelicHouse$Told" "relics" "Ljava/util/ArrayList;" "RelicHouse") ∈ lw_tbl := lw_at lw_m2 181 rfl
theorem q523 : (Jvm.Cond.fieldLinkNest "RelicHouse" (126 : Nat) "RelicHouse$Told" "pilgrims" "Ljava/util/ArrayList;" "RelicHouse") ∈ lw_tbl := lw_at lw_m2 184 rfl
theorem q528 : (Jvm.Cond.fieldLinkNest "RelicHouse" (158 : Nat) "RelicHouse$Told" "sisters" "I" "RelicHouse") ∈ lw_tbl := lw_at lw_m2 189 rfl
theorem q543 : (Jvm.Cond.methodLink "RelicHouse" (35 : Nat) ({ cls := "RelicHouse", name := "custom", desc := "()LRelicHouse$Term;" } : Jvm.MethodName)) ∈ lw_all := lw_g (lw_at lw_m2 204 rfl) rfl
theorem q544 : (Jvm.Cond.static ({ cls := "RelicHouse", name := "custom", desc := "()LRelicHouse$Term;" } : Jvm.MethodName)) ∈ lw_all := lw_g (lw_at lw_m2 205 rfl) rfl
theorem q545 : (Jvm.Cond.code ({ cls := "RelicHouse", name := "custom", desc := "()LRelicHouse$Term;" } : Jvm.MethodName) prog_1_method_1_code (0 : Nat) (Option.some (Jvm.ClassFile.FieldType.object "RelicHouse$Term"))) ∈ lw_all := lw_g (lw_at lw_m2 206 rfl) rfl
theorem q546 : (Jvm.Cond.classLink "RelicHouse" (1 : Nat) "RelicHouse$Minus") ∈ lw_all := lw_g (lw_at lw_m2 207 rfl) rfl
theorem q548 : (Jvm.Cond.classLink "RelicHouse" (3 : Nat) "RelicHouse$Plus") ∈ lw_all := lw_g (lw_at lw_m2 209 rfl) rfl
theorem q550 : (Jvm.Cond.classLink "RelicHouse" (5 : Nat) "RelicHouse$Fact") ∈ lw_all := lw_g (lw_at lw_m2 211 rfl) rfl
theorem q552 : (Jvm.Cond.methodLink "RelicHouse" (9 : Nat) ({ cls := "RelicHouse$Fact", name := "<init>", desc := "(I)V" } : Jvm.MethodName)) ∈ lw_all := lw_g (lw_at lw_m2 213 rfl) rfl
theorem q563 : (Jvm.Cond.methodLink "RelicHouse" (13 : Nat) ({ cls := "RelicHouse$Plus", name := "<init>", desc := "(LRelicHouse$Term;LRelicHouse$Term;)V" } : Jvm.MethodName)) ∈ lw_all := lw_g (lw_at lw_m2 224 rfl) rfl
theorem q577 : (Jvm.Cond.classLink "RelicHouse" (16 : Nat) "RelicHouse$Times") ∈ lw_all := lw_g (lw_at lw_m2 238 rfl) rfl
theorem q579 : (Jvm.Cond.classLink "RelicHouse" (18 : Nat) "RelicHouse$Plain") ∈ lw_all := lw_g (lw_at lw_m3 0 rfl) rfl
theorem q581 : (Jvm.Cond.methodLink "RelicHouse" (20 : Nat) ({ cls := "RelicHouse$Plain", name := "<init>", desc := "(I)V" } : Jvm.MethodName)) ∈ lw_all := lw_g (lw_at lw_m3 2 rfl) rfl
theorem q589 : (Jvm.Cond.methodLink "RelicHouse" (21 : Nat) ({ cls := "RelicHouse$Times", name := "<init>", desc := "(LRelicHouse$Term;LRelicHouse$Term;)V" } : Jvm.MethodName)) ∈ lw_all := lw_g (lw_at lw_m3 10 rfl) rfl
theorem q596 : (Jvm.Cond.methodLink "RelicHouse" (22 : Nat) ({ cls := "RelicHouse$Minus", name := "<init>", desc := "(LRelicHouse$Term;LRelicHouse$Term;)V" } : Jvm.MethodName)) ∈ lw_all := lw_g (lw_at lw_m3 17 rfl) rfl
theorem q603 : (Jvm.Cond.classLink "RelicHouse" (53 : Nat) "RelicHouse$House") ∈ lw_all := lw_g (lw_at lw_m3 24 rfl) rfl
theorem q605 : (Jvm.Cond.methodLinkNest "RelicHouse" (55 : Nat) ({ cls := "RelicHouse$House", name := "<init>", desc := "(LRelicHouse;)V" } : Jvm.MethodName) "RelicHouse") ∈ lw_tbl := lw_at lw_m3 26 rfl
theorem q610 : (Jvm.Cond.fieldLinkNest "RelicHouse" (311 : Nat) "RelicHouse$House" "days" "[I" "RelicHouse") ∈ lw_tbl := lw_at lw_m3 31 rfl
theorem q612 : (Jvm.Cond.fieldLinkNest "RelicHouse" (279 : Nat) "RelicHouse$House" "lapses" "[I" "RelicHouse") ∈ lw_tbl := lw_at lw_m3 33 rfl
theorem q614 : (Jvm.Cond.fieldLinkNest "RelicHouse" (288 : Nat) "RelicHouse$House" "cure" "[I" "RelicHouse") ∈ lw_tbl := lw_at lw_m3 35 rfl
theorem q616 : (Jvm.Cond.fieldLinkNest "RelicHouse" (259 : Nat) "RelicHouse$House" "living" "I" "RelicHouse") ∈ lw_tbl := lw_at lw_m3 37 rfl
theorem q618 : (Jvm.Cond.fieldLinkNest "RelicHouse" (267 : Nat) "RelicHouse$House" "used" "I" "RelicHouse") ∈ lw_tbl := lw_at lw_m3 39 rfl
theorem q620 : (Jvm.Cond.fieldLinkNest "RelicHouse" (256 : Nat) "RelicHouse$House" "day" "I" "RelicHouse") ∈ lw_tbl := lw_at lw_m3 41 rfl
theorem q623 : (Jvm.Cond.fieldLinkNest "RelicHouse" (217 : Nat) "RelicHouse$House" "steps" "I" "RelicHouse") ∈ lw_tbl := lw_at lw_m3 44 rfl
theorem q625 : (Jvm.Cond.fieldLinkNest "RelicHouse" (220 : Nat) "RelicHouse$House" "done" "I" "RelicHouse") ∈ lw_tbl := lw_at lw_m3 46 rfl
theorem q627 : (Jvm.Cond.fieldLinkNest "RelicHouse" (223 : Nat) "RelicHouse$House" "refused" "I" "RelicHouse") ∈ lw_tbl := lw_at lw_m3 48 rfl
theorem q651 : (Jvm.Cond.methodLink "RelicHouse" (98 : Nat) ({ cls := "RelicHouse", name := "begins", desc := "()V" } : Jvm.MethodName)) ∈ lw_all := lw_g (lw_at lw_m3 72 rfl) rfl
theorem q652 : (Jvm.Cond.privateMethod ({ cls := "RelicHouse", name := "begins", desc := "()V" } : Jvm.MethodName)) ∈ lw_tbl := lw_at lw_m3 73 rfl
theorem q653 : (Jvm.Cond.instanceMethod ({ cls := "RelicHouse", name := "begins", desc := "()V" } : Jvm.MethodName)) ∈ lw_all := lw_g (lw_at lw_m3 74 rfl) rfl
theorem q654 : (Jvm.Cond.code ({ cls := "RelicHouse", name := "begins", desc := "()V" } : Jvm.MethodName) prog_1_method_3_code (2 : Nat) (Option.none : Option Jvm.ClassFile.FieldType)) ∈ lw_all := lw_g (lw_at lw_m3 75 rfl) rfl
theorem q655 : (Jvm.Cond.methodLink "RelicHouse" (101 : Nat) ({ cls := "RelicHouse$House", name := "begins", desc := "()LRelicHouse$House;" } : Jvm.MethodName)) ∈ lw_all := lw_g (lw_at lw_m3 76 rfl) rfl
theorem q659 : (Jvm.Cond.fieldLink "RelicHouse" (31 : Nat) "RelicHouse" "told" "LRelicHouse$Told;") ∈ lw_all := lw_g (lw_at lw_m3 80 rfl) rfl
theorem q661 : (Jvm.Cond.fieldLink "RelicHouse" (39 : Nat) "RelicHouse" "law" "LRelicHouse$Term;") ∈ lw_all := lw_g (lw_at lw_m3 82 rfl) rfl
theorem q662 : (Jvm.Cond.fieldLink "RelicHouse" (43 : Nat) "RelicHouse" "facts" "[I") ∈ lw_all := lw_g (lw_at lw_m3 83 rfl) rfl
theorem q663 : (Jvm.Cond.fieldLink "RelicHouse" (47 : Nat) "RelicHouse" "seenOf" "[I") ∈ lw_all := lw_g (lw_at lw_m3 84 rfl) rfl
theorem q664 : (Jvm.Cond.fieldLink "RelicHouse" (50 : Nat) "RelicHouse" "refused" "[I") ∈ lw_all := lw_g (lw_at lw_m3 85 rfl) rfl
theorem q665 : (Jvm.Cond.fieldLink "RelicHouse" (58 : Nat) "RelicHouse" "now" "LRelicHouse$House;") ∈ lw_all := lw_g (lw_at lw_m3 86 rfl) rfl
theorem q666 : (Jvm.Cond.fieldLink "RelicHouse" (62 : Nat) "RelicHouse" "probe" "LRelicHouse$House;") ∈ lw_all := lw_g (lw_at lw_m3 87 rfl) rfl
theorem q667 : (Jvm.Cond.fieldLink "RelicHouse" (65 : Nat) "RelicHouse" "past" "[LRelicHouse$House;") ∈ lw_all := lw_g (lw_at lw_m3 88 rfl) rfl
theorem q668 : (Jvm.Cond.fieldLink "RelicHouse" (69 : Nat) "RelicHouse" "images" "[LRelicHouse$House;") ∈ lw_all := lw_g (lw_at lw_m3 89 rfl) rfl
theorem q669 : (Jvm.Cond.fieldLink "RelicHouse" (72 : Nat) "RelicHouse" "imagePast" "[LRelicHouse$House;") ∈ lw_all := lw_g (lw_at lw_m3 90 rfl) rfl
theorem q670 : (Jvm.Cond.fieldLink "RelicHouse" (75 : Nat) "RelicHouse" "imageWorks" "[I") ∈ lw_all := lw_g (lw_at lw_m3 91 rfl) rfl
theorem q671 : (Jvm.Cond.fieldLink "RelicHouse" (104 : Nat) "RelicHouse" "works" "I") ∈ lw_all := lw_g (lw_at lw_m3 92 rfl) rfl
theorem q672 : (Jvm.Cond.fieldLink "RelicHouse" (107 : Nat) "RelicHouse" "refusedSteps" "I") ∈ lw_all := lw_g (lw_at lw_m3 93 rfl) rfl
theorem q673 : (Jvm.Cond.fieldLink "RelicHouse" (110 : Nat) "RelicHouse" "lineMany" "I") ∈ lw_all := lw_g (lw_at lw_m3 94 rfl) rfl
theorem q674 : (Jvm.Cond.fieldLink "RelicHouse" (399 : Nat) "RelicHouse" "seedNow" "I") ∈ lw_all := lw_g (lw_at lw_m3 95 rfl) rfl
theorem q675 : (Jvm.Cond.fieldLink "RelicHouse" (169 : Nat) "RelicHouse" "taped" "I") ∈ lw_all := lw_g (lw_at lw_m3 96 rfl) rfl
theorem q676 : (Jvm.Cond.fieldLink "RelicHouse" (78 : Nat) "RelicHouse" "faultAt" "I") ∈ lw_all := lw_g (lw_at lw_m3 97 rfl) rfl
theorem q677 : (Jvm.Cond.fieldLink "RelicHouse" (113 : Nat) "RelicHouse" "imageMany" "I") ∈ lw_all := lw_g (lw_at lw_m3 98 rfl) rfl
theorem q678 : (Jvm.Cond.fieldLink "RelicHouse" (82 : Nat) "RelicHouse" "tape" "[B") ∈ lw_all := lw_g (lw_at lw_m3 99 rfl) rfl
theorem q679 : (Jvm.Cond.fieldLink "RelicHouse" (86 : Nat) "RelicHouse" "mostOn" "[I") ∈ lw_all := lw_g (lw_at lw_m3 100 rfl) rfl
theorem q680 : (Jvm.Cond.fieldLink "RelicHouse" (89 : Nat) "RelicHouse" "bestRelic" "[I") ∈ lw_all := lw_g (lw_at lw_m3 101 rfl) rfl
theorem q681 : (Jvm.Cond.fieldLink "RelicHouse" (92 : Nat) "RelicHouse" "curers" "[I") ∈ lw_all := lw_g (lw_at lw_m3 102 rfl) rfl
theorem q682 : (Jvm.Cond.fieldLink "RelicHouse" (95 : Nat) "RelicHouse" "leftBy" "[I") ∈ lw_all := lw_g (lw_at lw_m3 103 rfl) rfl
theorem q683 : (Jvm.Cond.fieldLink "RelicHouse" (403 : Nat) "RelicHouse" "cureMany" "I") ∈ lw_all := lw_g (lw_at lw_m3 104 rfl) rfl
theorem q684 : (Jvm.Cond.fieldLink "RelicHouse" (406 : Nat) "RelicHouse" "lapseMany" "I") ∈ lw_all := lw_g (lw_at lw_m3 105 rfl) rfl
theorem q685 : (Jvm.Cond.lays "RelicHouse" "RelicHouse" "told" "LRelicHouse$Told;") ∈ lw_all := lw_g (lw_at lw_m3 106 rfl) rfl
theorem q686 : (Jvm.Cond.soleField "RelicHouse" "told") ∈ lw_all := lw_g (lw_at lw_m3 107 rfl) rfl
theorem q687 : (Jvm.Cond.lays "RelicHouse" "RelicHouse" "law" "LRelicHouse$Term;") ∈ lw_all := lw_g (lw_at lw_m3 108 rfl) rfl
theorem q688 : (Jvm.Cond.soleField "RelicHouse" "law") ∈ lw_all := lw_g (lw_at lw_m3 109 rfl) rfl
theorem q689 : (Jvm.Cond.laysFinal "RelicHouse" "RelicHouse" "facts" "[I") ∈ lw_all := lw_g (lw_at lw_m3 110 rfl) rfl
theorem q690 : (Jvm.Cond.soleField "RelicHouse" "facts") ∈ lw_all := lw_g (lw_at lw_m3 111 rfl) rfl
theorem q691 : (Jvm.Cond.laysFinal "RelicHouse" "RelicHouse" "seenOf" "[I") ∈ lw_all := lw_g (lw_at lw_m3 112 rfl) rfl
theorem q692 : (Jvm.Cond.soleField "RelicHouse" "seenOf") ∈ lw_all := lw_g (lw_at lw_m3 113 rfl) rfl
theorem q693 : (Jvm.Cond.laysFinal "RelicHouse" "RelicHouse" "refused" "[I") ∈ lw_all := lw_g (lw_at lw_m3 114 rfl) rfl
theorem q694 : (Jvm.Cond.soleField "RelicHouse" "refused") ∈ lw_all := lw_g (lw_at lw_m3 115 rfl) rfl
theorem q695 : (Jvm.Cond.laysFinal "RelicHouse" "RelicHouse" "now" "LRelicHouse$House;") ∈ lw_all := lw_g (lw_at lw_m3 116 rfl) rfl
theorem q696 : (Jvm.Cond.soleField "RelicHouse" "now") ∈ lw_all := lw_g (lw_at lw_m3 117 rfl) rfl
theorem q697 : (Jvm.Cond.laysFinal "RelicHouse" "RelicHouse" "probe" "LRelicHouse$House;") ∈ lw_all := lw_g (lw_at lw_m3 118 rfl) rfl
theorem q698 : (Jvm.Cond.soleField "RelicHouse" "probe") ∈ lw_all := lw_g (lw_at lw_m3 119 rfl) rfl
theorem q699 : (Jvm.Cond.laysFinal "RelicHouse" "RelicHouse" "past" "[LRelicHouse$House;") ∈ lw_all := lw_g (lw_at lw_m3 120 rfl) rfl
theorem q700 : (Jvm.Cond.soleField "RelicHouse" "past") ∈ lw_all := lw_g (lw_at lw_m3 121 rfl) rfl
theorem q701 : (Jvm.Cond.laysFinal "RelicHouse" "RelicHouse" "images" "[LRelicHouse$House;") ∈ lw_all := lw_g (lw_at lw_m3 122 rfl) rfl
theorem q702 : (Jvm.Cond.soleField "RelicHouse" "images") ∈ lw_all := lw_g (lw_at lw_m3 123 rfl) rfl
theorem q703 : (Jvm.Cond.laysFinal "RelicHouse" "RelicHouse" "imagePast" "[LRelicHouse$House;") ∈ lw_all := lw_g (lw_at lw_m3 124 rfl) rfl
theorem q704 : (Jvm.Cond.soleField "RelicHouse" "imagePast") ∈ lw_all := lw_g (lw_at lw_m3 125 rfl) rfl
theorem q705 : (Jvm.Cond.laysFinal "RelicHouse" "RelicHouse" "imageWorks" "[I") ∈ lw_all := lw_g (lw_at lw_m3 126 rfl) rfl
theorem q706 : (Jvm.Cond.soleField "RelicHouse" "imageWorks") ∈ lw_all := lw_g (lw_at lw_m3 127 rfl) rfl
theorem q707 : (Jvm.Cond.lays "RelicHouse" "RelicHouse" "works" "I") ∈ lw_all := lw_g (lw_at lw_m3 128 rfl) rfl
theorem q708 : (Jvm.Cond.soleField "RelicHouse" "works") ∈ lw_all := lw_g (lw_at lw_m3 129 rfl) rfl
theorem q709 : (Jvm.Cond.lays "RelicHouse" "RelicHouse" "refusedSteps" "I") ∈ lw_all := lw_g (lw_at lw_m3 130 rfl) rfl
theorem q710 : (Jvm.Cond.soleField "RelicHouse" "refusedSteps") ∈ lw_all := lw_g (lw_at lw_m3 131 rfl) rfl
theorem q711 : (Jvm.Cond.lays "RelicHouse" "RelicHouse" "lineMany" "I") ∈ lw_all := lw_g (lw_at lw_m3 132 rfl) rfl
theorem q712 : (Jvm.Cond.soleField "RelicHouse" "lineMany") ∈ lw_all := lw_g (lw_at lw_m3 133 rfl) rfl
theorem q713 : (Jvm.Cond.lays "RelicHouse" "RelicHouse" "seedNow" "I") ∈ lw_all := lw_g (lw_at lw_m3 134 rfl) rfl
theorem q714 : (Jvm.Cond.soleField "RelicHouse" "seedNow") ∈ lw_all := lw_g (lw_at lw_m3 135 rfl) rfl
theorem q715 : (Jvm.Cond.lays "RelicHouse" "RelicHouse" "taped" "I") ∈ lw_all := lw_g (lw_at lw_m3 136 rfl) rfl
theorem q716 : (Jvm.Cond.soleField "RelicHouse" "taped") ∈ lw_all := lw_g (lw_at lw_m3 137 rfl) rfl
theorem q717 : (Jvm.Cond.lays "RelicHouse" "RelicHouse" "faultAt" "I") ∈ lw_all := lw_g (lw_at lw_m3 138 rfl) rfl
theorem q718 : (Jvm.Cond.soleField "RelicHouse" "faultAt") ∈ lw_all := lw_g (lw_at lw_m3 139 rfl) rfl
theorem q719 : (Jvm.Cond.lays "RelicHouse" "RelicHouse" "imageMany" "I") ∈ lw_all := lw_g (lw_at lw_m3 140 rfl) rfl
theorem q720 : (Jvm.Cond.soleField "RelicHouse" "imageMany") ∈ lw_all := lw_g (lw_at lw_m3 141 rfl) rfl
theorem q721 : (Jvm.Cond.laysFinal "RelicHouse" "RelicHouse" "tape" "[B") ∈ lw_all := lw_g (lw_at lw_m3 142 rfl) rfl
theorem q722 : (Jvm.Cond.soleField "RelicHouse" "tape") ∈ lw_all := lw_g (lw_at lw_m3 143 rfl) rfl
theorem q723 : (Jvm.Cond.laysFinal "RelicHouse" "RelicHouse" "mostOn" "[I") ∈ lw_all := lw_g (lw_at lw_m3 144 rfl) rfl
theorem q724 : (Jvm.Cond.soleField "RelicHouse" "mostOn") ∈ lw_all := lw_g (lw_at lw_m3 145 rfl) rfl
theorem q725 : (Jvm.Cond.laysFinal "RelicHouse" "RelicHouse" "bestRelic" "[I") ∈ lw_all := lw_g (lw_at lw_m3 146 rfl) rfl
theorem q726 : (Jvm.Cond.soleField "RelicHouse" "bestRelic") ∈ lw_all := lw_g (lw_at lw_m3 147 rfl) rfl
theorem q727 : (Jvm.Cond.laysFinal "RelicHouse" "RelicHouse" "curers" "[I") ∈ lw_all := lw_g (lw_at lw_m3 148 rfl) rfl
theorem q728 : (Jvm.Cond.soleField "RelicHouse" "curers") ∈ lw_all := lw_g (lw_at lw_m3 149 rfl) rfl
theorem q729 : (Jvm.Cond.laysFinal "RelicHouse" "RelicHouse" "leftBy" "[I") ∈ lw_all := lw_g (lw_at lw_m3 150 rfl) rfl
theorem q730 : (Jvm.Cond.soleField "RelicHouse" "leftBy") ∈ lw_all := lw_g (lw_at lw_m3 151 rfl) rfl
theorem q731 : (Jvm.Cond.lays "RelicHouse" "RelicHouse" "cureMany" "I") ∈ lw_all := lw_g (lw_at lw_m3 152 rfl) rfl
theorem q732 : (Jvm.Cond.soleField "RelicHouse" "cureMany") ∈ lw_all := lw_g (lw_at lw_m3 153 rfl) rfl
theorem q733 : (Jvm.Cond.lays "RelicHouse" "RelicHouse" "lapseMany" "I") ∈ lw_all := lw_g (lw_at lw_m3 154 rfl) rfl
theorem q734 : (Jvm.Cond.soleField "RelicHouse" "lapseMany") ∈ lw_all := lw_g (lw_at lw_m3 155 rfl) rfl
theorem q735 : (Jvm.Cond.superclass "RelicHouse" "java/lang/Object") ∈ lw_all := lw_g (lw_at lw_m3 156 rfl) rfl
theorem q737 : (Jvm.Cond.instanceMethod ({ cls := "RelicHouse", name := "feed", desc := "(IIIII)I" } : Jvm.MethodName)) ∈ lw_all := lw_g (lw_at lw_m3 158 rfl) rfl
theorem q738 : (Jvm.Cond.selects "RelicHouse" ({ cls := "RelicHouse", name := "feed", desc := "(IIIII)I" } : Jvm.MethodName) ({ cls := "RelicHouse", name := "feed", desc := "(IIIII)I" } : Jvm.MethodName)) ∈ lw_all := lw_g (lw_at lw_m3 159 rfl) rfl
theorem q739 : (Jvm.Cond.code ({ cls := "RelicHouse", name := "feed", desc := "(IIIII)I" } : Jvm.MethodName) prog_1_method_17_code (6 : Nat) (Option.some Jvm.ClassFile.FieldType.int)) ∈ lw_all := lw_g (lw_at lw_m3 160 rfl) rfl
theorem q740 : (Jvm.Cond.methodLink "RelicHouse" (172 : Nat) ({ cls := "RelicHouse", name := "put", desc := "(I)V" } : Jvm.MethodName)) ∈ lw_all := lw_g (lw_at lw_m3 161 rfl) rfl
theorem q741 : (Jvm.Cond.privateMethod ({ cls := "RelicHouse", name := "put", desc := "(I)V" } : Jvm.MethodName)) ∈ lw_tbl := lw_at lw_m3 162 rfl
theorem q742 : (Jvm.Cond.instanceMethod ({ cls := "RelicHouse", name := "put", desc := "(I)V" } : Jvm.MethodName)) ∈ lw_all := lw_g (lw_at lw_m3 163 rfl) rfl
theorem q743 : (Jvm.Cond.code ({ cls := "RelicHouse", name := "put", desc := "(I)V" } : Jvm.MethodName) prog_1_method_18_code (3 : Nat) (Option.none : Option Jvm.ClassFile.FieldType)) ∈ lw_all := lw_g (lw_at lw_m3 164 rfl) rfl
theorem q745 : (Jvm.Cond.instanceMethod ({ cls := "RelicHouse", name := "fault", desc := "()I" } : Jvm.MethodName)) ∈ lw_all := lw_g (lw_at lw_m3 166 rfl) rfl
theorem q746 : (Jvm.Cond.selects "RelicHouse" ({ cls := "RelicHouse", name := "fault", desc := "()I" } : Jvm.MethodName) ({ cls := "RelicHouse", name := "fault", desc := "()I" } : Jvm.MethodName)) ∈ lw_all := lw_g (lw_at lw_m3 167 rfl) rfl
theorem q747 : (Jvm.Cond.code ({ cls := "RelicHouse", name := "fault", desc := "()I" } : Jvm.MethodName) prog_1_method_24_code (1 : Nat) (Option.some Jvm.ClassFile.FieldType.int)) ∈ lw_all := lw_g (lw_at lw_m3 168 rfl) rfl
theorem q749 : (Jvm.Cond.instanceMethod ({ cls := "RelicHouse", name := "undo", desc := "()I" } : Jvm.MethodName)) ∈ lw_all := lw_g (lw_at lw_m3 170 rfl) rfl
theorem q750 : (Jvm.Cond.selects "RelicHouse" ({ cls := "RelicHouse", name := "undo", desc := "()I" } : Jvm.MethodName) ({ cls := "RelicHouse", name := "undo", desc := "()I" } : Jvm.MethodName)) ∈ lw_all := lw_g (lw_at lw_m3 171 rfl) rfl
theorem q751 : (Jvm.Cond.code ({ cls := "RelicHouse", name := "undo", desc := "()I" } : Jvm.MethodName) prog_1_method_25_code (1 : Nat) (Option.some Jvm.ClassFile.FieldType.int)) ∈ lw_all := lw_g (lw_at lw_m3 172 rfl) rfl
theorem q752 : (Jvm.Cond.methodLink "RelicHouse" (248 : Nat) ({ cls := "RelicHouse$House", name := "becomes", desc := "(LRelicHouse$House;)LRelicHouse$House;" } : Jvm.MethodName)) ∈ lw_all := lw_g (lw_at lw_m3 173 rfl) rfl
theorem q758 : (Jvm.Cond.instanceMethod ({ cls := "RelicHouse", name := "bare", desc := "()I" } : Jvm.MethodName)) ∈ lw_all := lw_g (lw_at lw_m3 179 rfl) rfl
theorem q759 : (Jvm.Cond.selects "RelicHouse" ({ cls := "RelicHouse", name := "bare", desc := "()I" } : Jvm.MethodName) ({ cls := "RelicHouse", name := "bare", desc := "()I" } : Jvm.MethodName)) ∈ lw_all := lw_g (lw_at lw_m3 180 rfl) rfl
theorem q760 : (Jvm.Cond.code ({ cls := "RelicHouse", name := "bare", desc := "()I" } : Jvm.MethodName) prog_1_method_38_code (3 : Nat) (Option.some Jvm.ClassFile.FieldType.int)) ∈ lw_all := lw_g (lw_at lw_m3 181 rfl) rfl
theorem q761 : (Jvm.Cond.methodLink "RelicHouse" (165 : Nat) ({ cls := "RelicHouse", name := "relics", desc := "()I" } : Jvm.MethodName)) ∈ lw_all := lw_g (lw_at lw_m3 182 rfl) rfl
theorem q762 : (Jvm.Cond.privateMethod ({ cls := "RelicHouse", name := "relics", desc := "()I" } : Jvm.MethodName)) ∈ lw_tbl := lw_at lw_m3 183 rfl
theorem q763 : (Jvm.Cond.instanceMethod ({ cls := "RelicHouse", name := "relics", desc := "()I" } : Jvm.MethodName)) ∈ lw_all := lw_g (lw_at lw_m3 184 rfl) rfl
theorem q764 : (Jvm.Cond.code ({ cls := "RelicHouse", name := "relics", desc := "()I" } : Jvm.MethodName) prog_1_method_4_code (1 : Nat) (Option.some Jvm.ClassFile.FieldType.int)) ∈ lw_all := lw_g (lw_at lw_m3 185 rfl) rfl
theorem q765 : (Jvm.Cond.methodLink "RelicHouse" (120 : Nat) ({ cls := "java/util/ArrayList", name := "size", desc := "()I" } : Jvm.MethodName)) ∈ lw_all := lw_g (lw_at lw_m3 186 rfl) rfl
theorem q769 : (Jvm.Cond.methodLink "RelicHouse" (298 : Nat) ({ cls := "RelicHouse", name := "relicOf", desc := "(I)LRelicHouse$Relic;" } : Jvm.MethodName)) ∈ lw_all := lw_g (lw_at lw_m3 190 rfl) rfl
theorem q770 : (Jvm.Cond.privateMethod ({ cls := "RelicHouse", name := "relicOf", desc := "(I)LRelicHouse$Relic;" } : Jvm.MethodName)) ∈ lw_tbl := lw_at lw_m3 191 rfl
theorem q771 : (Jvm.Cond.instanceMethod ({ cls := "RelicHouse", name := "relicOf", desc := "(I)LRelicHouse$Relic;" } : Jvm.MethodName)) ∈ lw_all := lw_g (lw_at lw_m3 192 rfl) rfl
theorem q772 : (Jvm.Cond.code ({ cls := "RelicHouse", name := "relicOf", desc := "(I)LRelicHouse$Relic;" } : Jvm.MethodName) prog_1_method_6_code (2 : Nat) (Option.some (Jvm.ClassFile.FieldType.object "RelicHouse$Relic"))) ∈ lw_all := lw_g (lw_at lw_m3 193 rfl) rfl
theorem q773 : (Jvm.Cond.methodLink "RelicHouse" (129 : Nat) ({ cls := "java/util/ArrayList", name := "get", desc := "(I)Ljava/lang/Object;" } : Jvm.MethodName)) ∈ lw_all := lw_g (lw_at lw_m3 194 rfl) rfl
theorem q787 : (Jvm.Cond.classLink "RelicHouse" (133 : Nat) "RelicHouse$Relic") ∈ lw_all := lw_g (lw_at lw_m3 208 rfl) rfl
theorem q789 : (Jvm.Cond.instanceMethod ({ cls := "RelicHouse", name := "idle", desc := "()I" } : Jvm.MethodName)) ∈ lw_all := lw_g (lw_at lw_m3 210 rfl) rfl
theorem q790 : (Jvm.Cond.selects "RelicHouse" ({ cls := "RelicHouse", name := "idle", desc := "()I" } : Jvm.MethodName) ({ cls := "RelicHouse", name := "idle", desc := "()I" } : Jvm.MethodName)) ∈ lw_all := lw_g (lw_at lw_m3 211 rfl) rfl
theorem q791 : (Jvm.Cond.code ({ cls := "RelicHouse", name := "idle", desc := "()I" } : Jvm.MethodName) prog_1_method_40_code (3 : Nat) (Option.some Jvm.ClassFile.FieldType.int)) ∈ lw_all := lw_g (lw_at lw_m3 212 rfl) rfl
theorem q792 : (Jvm.Cond.methodLink "RelicHouse" (350 : Nat) ({ cls := "RelicHouse", name := "has", desc := "(II)Z" } : Jvm.MethodName)) ∈ lw_all := lw_g (lw_at lw_m3 213 rfl) rfl
theorem q793 : (Jvm.Cond.static ({ cls := "RelicHouse", name := "has", desc := "(II)Z" } : Jvm.MethodName)) ∈ lw_all := lw_g (lw_at lw_m3 214 rfl) rfl
theorem q794 : (Jvm.Cond.code ({ cls := "RelicHouse", name := "has", desc := "(II)Z" } : Jvm.MethodName) prog_1_method_16_code (2 : Nat) (Option.some Jvm.ClassFile.FieldType.boolean)) ∈ lw_all := lw_g (lw_at lw_m3 215 rfl) rfl
theorem q795 : (Jvm.Cond.methodLink "RelicHouse" (353 : Nat) ({ cls := "RelicHouse$House", name := "canLapse", desc := "(I)Z" } : Jvm.MethodName)) ∈ lw_all := lw_g (lw_at lw_m3 216 rfl) rfl
theorem q813 : (Jvm.Cond.instanceMethod ({ cls := "RelicHouse", name := "match", desc := "()I" } : Jvm.MethodName)) ∈ lw_all := lw_g (lw_at lw_m3 234 rfl) rfl
theorem q814 : (Jvm.Cond.selects "RelicHouse" ({ cls := "RelicHouse", name := "match", desc := "()I" } : Jvm.MethodName) ({ cls := "RelicHouse", name := "match", desc := "()I" } : Jvm.MethodName)) ∈ lw_all := lw_g (lw_at lw_m3 235 rfl) rfl
theorem q815 : (Jvm.Cond.code ({ cls := "RelicHouse", name := "match", desc := "()I" } : Jvm.MethodName) prog_1_method_45_code (1 : Nat) (Option.some Jvm.ClassFile.FieldType.int)) ∈ lw_all := lw_g (lw_at lw_m3 236 rfl) rfl
theorem q816 : (Jvm.Cond.methodLink "RelicHouse" (356 : Nat) ({ cls := "RelicHouse", name := "findMatch", desc := "()V" } : Jvm.MethodName)) ∈ lw_all := lw_g (lw_at lw_m3 237 rfl) rfl
theorem q817 : (Jvm.Cond.privateMethod ({ cls := "RelicHouse", name := "findMatch", desc := "()V" } : Jvm.MethodName)) ∈ lw_tbl := lw_at lw_m3 238 rfl
theorem q818 : (Jvm.Cond.instanceMethod ({ cls := "RelicHouse", name := "findMatch", desc := "()V" } : Jvm.MethodName)) ∈ lw_all := lw_g (lw_at lw_m3 239 rfl) rfl
theorem q819 : (Jvm.Cond.code ({ cls := "RelicHouse", name := "findMatch", desc := "()V" } : Jvm.MethodName) prog_1_method_44_code (6 : Nat) (Option.none : Option Jvm.ClassFile.FieldType)) ∈ lw_all := lw_g (lw_at lw_m4 0 rfl) rfl
theorem q820 : (Jvm.Cond.methodLink "RelicHouse" (167 : Nat) ({ cls := "RelicHouse", name := "pilgrims", desc := "()I" } : Jvm.MethodName)) ∈ lw_all := lw_g (lw_at lw_m4 1 rfl) rfl
theorem q821 : (Jvm.Cond.privateMethod ({ cls := "RelicHouse", name := "pilgrims", desc := "()I" } : Jvm.MethodName)) ∈ lw_tbl := lw_at lw_m4 2 rfl
theorem q822 : (Jvm.Cond.instanceMethod ({ cls := "RelicHouse", name := "pilgrims", desc := "()I" } : Jvm.MethodName)) ∈ lw_all := lw_g (lw_at lw_m4 3 rfl) rfl
theorem q823 : (Jvm.Cond.code ({ cls := "RelicHouse", name := "pilgrims", desc := "()I" } : Jvm.MethodName) prog_1_method_5_code (1 : Nat) (Option.some Jvm.ClassFile.FieldType.int)) ∈ lw_all := lw_g (lw_at lw_m4 4 rfl) rfl
theorem q824 : (Jvm.Cond.methodLink "RelicHouse" (338 : Nat) ({ cls := "RelicHouse$House", name := "canCure", desc := "(II)Z" } : Jvm.MethodName)) ∈ lw_all := lw_g (lw_at lw_m4 5 rfl) rfl
theorem q834 : (Jvm.Cond.privateMethod ({ cls := "RelicHouse", name := "pilgrimOf", desc := "(I)LRelicHouse$Pilgrim;" } : Jvm.MethodName)) ∈ lw_tbl := lw_at lw_m4 15 rfl
theorem q835 : (Jvm.Cond.instanceMethod ({ cls := "RelicHouse", name := "pilgrimOf", desc := "(I)LRelicHouse$Pilgrim;" } : Jvm.MethodName)) ∈ lw_all := lw_g (lw_at lw_m4 16 rfl) rfl
theorem q836 : (Jvm.Cond.code ({ cls := "RelicHouse", name := "pilgrimOf", desc := "(I)LRelicHouse$Pilgrim;" } : Jvm.MethodName) prog_1_method_7_code (2 : Nat) (Option.some (Jvm.ClassFile.FieldType.object "RelicHouse$Pilgrim"))) ∈ lw_all := lw_g (lw_at lw_m4 17 rfl) rfl
theorem q837 : (Jvm.Cond.classLink "RelicHouse" (135 : Nat) "RelicHouse$Pilgrim") ∈ lw_all := lw_g (lw_at lw_m4 18 rfl) rfl
theorem q853 : (Jvm.Cond.privateMethod ({ cls := "RelicHouse", name := "powerBy", desc := "(IIIIIIII)I" } : Jvm.MethodName)) ∈ lw_tbl := lw_at lw_m4 34 rfl
theorem q854 : (Jvm.Cond.instanceMethod ({ cls := "RelicHouse", name := "powerBy", desc := "(IIIIIIII)I" } : Jvm.MethodName)) ∈ lw_all := lw_g (lw_at lw_m4 35 rfl) rfl
theorem q855 : (Jvm.Cond.code ({ cls := "RelicHouse", name := "powerBy", desc := "(IIIIIIII)I" } : Jvm.MethodName) prog_1_method_8_code (9 : Nat) (Option.some Jvm.ClassFile.FieldType.int)) ∈ lw_all := lw_g (lw_at lw_m4 36 rfl) rfl
theorem q856 : (Jvm.Cond.methodLink "RelicHouse" (137 : Nat) ({ cls := "RelicHouse$Term", name := "of", desc := "([I)I" } : Jvm.MethodName)) ∈ lw_all := lw_g (lw_at lw_m4 37 rfl) rfl
theorem q901 : (Jvm.Cond.methodLink "RelicHouse" (143 : Nat) ({ cls := "java/lang/Math", name := "min", desc := "(II)I" } : Jvm.MethodName)) ∈ lw_all := lw_g (lw_at lw_m4 82 rfl) rfl
theorem q902 : (Jvm.Cond.methodLink "RelicHouse" (149 : Nat) ({ cls := "java/lang/Math", name := "max", desc := "(II)I" } : Jvm.MethodName)) ∈ lw_all := lw_g (lw_at lw_m4 83 rfl) rfl
theorem q904 : (Jvm.Cond.instanceMethod ({ cls := "RelicHouse", name := "image", desc := "()I" } : Jvm.MethodName)) ∈ lw_all := lw_g (lw_at lw_m4 85 rfl) rfl
theorem q905 : (Jvm.Cond.selects "RelicHouse" ({ cls := "RelicHouse", name := "image", desc := "()I" } : Jvm.MethodName) ({ cls := "RelicHouse", name := "image", desc := "()I" } : Jvm.MethodName)) ∈ lw_all := lw_g (lw_at lw_m4 86 rfl) rfl
theorem q906 : (Jvm.Cond.code ({ cls := "RelicHouse", name := "image", desc := "()I" } : Jvm.MethodName) prog_1_method_69_code (2 : Nat) (Option.some Jvm.ClassFile.FieldType.int)) ∈ lw_all := lw_g (lw_at lw_m4 87 rfl) rfl
theorem q907 : (Jvm.Cond.methodLink "RelicHouse" (213 : Nat) ({ cls := "RelicHouse", name := "kept", desc := "([LRelicHouse$House;ILRelicHouse$House;)V" } : Jvm.MethodName)) ∈ lw_all := lw_g (lw_at lw_m4 88 rfl) rfl
theorem q908 : (Jvm.Cond.privateMethod ({ cls := "RelicHouse", name := "kept", desc := "([LRelicHouse$House;ILRelicHouse$House;)V" } : Jvm.MethodName)) ∈ lw_tbl := lw_at lw_m4 89 rfl
theorem q909 : (Jvm.Cond.instanceMethod ({ cls := "RelicHouse", name := "kept", desc := "([LRelicHouse$House;ILRelicHouse$House;)V" } : Jvm.MethodName)) ∈ lw_all := lw_g (lw_at lw_m4 90 rfl) rfl
theorem q910 : (Jvm.Cond.code ({ cls := "RelicHouse", name := "kept", desc := "([LRelicHouse$House;ILRelicHouse$House;)V" } : Jvm.MethodName) prog_1_method_68_code (4 : Nat) (Option.none : Option Jvm.ClassFile.FieldType)) ∈ lw_all := lw_g (lw_at lw_m4 91 rfl) rfl
theorem q912 : (Jvm.Cond.instanceMethod ({ cls := "RelicHouse", name := "restore", desc := "()I" } : Jvm.MethodName)) ∈ lw_all := lw_g (lw_at lw_m4 93 rfl) rfl
theorem q913 : (Jvm.Cond.selects "RelicHouse" ({ cls := "RelicHouse", name := "restore", desc := "()I" } : Jvm.MethodName) ({ cls := "RelicHouse", name := "restore", desc := "()I" } : Jvm.MethodName)) ∈ lw_all := lw_g (lw_at lw_m4 94 rfl) rfl
theorem q914 : (Jvm.Cond.code ({ cls := "RelicHouse", name := "restore", desc := "()I" } : Jvm.MethodName) prog_1_method_70_code (2 : Nat) (Option.some Jvm.ClassFile.FieldType.int)) ∈ lw_all := lw_g (lw_at lw_m4 95 rfl) rfl
theorem q916 : (Jvm.Cond.instanceMethod ({ cls := "RelicHouse", name := "status", desc := "(I)I" } : Jvm.MethodName)) ∈ lw_all := lw_g (lw_at lw_m4 97 rfl) rfl
theorem q917 : (Jvm.Cond.selects "RelicHouse" ({ cls := "RelicHouse", name := "status", desc := "(I)I" } : Jvm.MethodName) ({ cls := "RelicHouse", name := "status", desc := "(I)I" } : Jvm.MethodName)) ∈ lw_all := lw_g (lw_at lw_m4 98 rfl) rfl
theorem q918 : (Jvm.Cond.code ({ cls := "RelicHouse", name := "status", desc := "(I)I" } : Jvm.MethodName) prog_1_method_71_code (2 : Nat) (Option.some Jvm.ClassFile.FieldType.int)) ∈ lw_all := lw_g (lw_at lw_m4 99 rfl) rfl
theorem q919 : (Jvm.Cond.methodLink "RelicHouse" (344 : Nat) ({ cls := "RelicHouse", name := "isPart", desc := "(I)Z" } : Jvm.MethodName)) ∈ lw_all := lw_g (lw_at lw_m4 100 rfl) rfl
theorem q920 : (Jvm.Cond.static ({ cls := "RelicHouse", name := "isPart", desc := "(I)Z" } : Jvm.MethodName)) ∈ lw_all := lw_g (lw_at lw_m4 101 rfl) rfl
theorem q921 : (Jvm.Cond.code ({ cls := "RelicHouse", name := "isPart", desc := "(I)Z" } : Jvm.MethodName) prog_1_method_14_code (1 : Nat) (Option.some Jvm.ClassFile.FieldType.boolean)) ∈ lw_all := lw_g (lw_at lw_m4 102 rfl) rfl
theorem q923 : (Jvm.Cond.instanceMethod ({ cls := "RelicHouse", name := "count", desc := "(I)I" } : Jvm.MethodName)) ∈ lw_all := lw_g (lw_at lw_m4 104 rfl) rfl
theorem q924 : (Jvm.Cond.selects "RelicHouse" ({ cls := "RelicHouse", name := "count", desc := "(I)I" } : Jvm.MethodName) ({ cls := "RelicHouse", name := "count", desc := "(I)I" } : Jvm.MethodName)) ∈ lw_all := lw_g (lw_at lw_m4 105 rfl) rfl
theorem q925 : (Jvm.Cond.code ({ cls := "RelicHouse", name := "count", desc := "(I)I" } : Jvm.MethodName) prog_1_method_72_code (2 : Nat) (Option.some Jvm.ClassFile.FieldType.int)) ∈ lw_all := lw_g (lw_at lw_m4 106 rfl) rfl
theorem q931 : (Jvm.Cond.instanceMethod ({ cls := "RelicHouse", name := "house", desc := "(I)I" } : Jvm.MethodName)) ∈ lw_all := lw_g (lw_at lw_m4 112 rfl) rfl
theorem q932 : (Jvm.Cond.selects "RelicHouse" ({ cls := "RelicHouse", name := "house", desc := "(I)I" } : Jvm.MethodName) ({ cls := "RelicHouse", name := "house", desc := "(I)I" } : Jvm.MethodName)) ∈ lw_all := lw_g (lw_at lw_m4 113 rfl) rfl
theorem q933 : (Jvm.Cond.codeWith ({ cls := "RelicHouse", name := "house", desc := "(I)I" } : Jvm.MethodName) prog_1_method_20_code (5 : Nat) (Option.some Jvm.ClassFile.FieldType.int) [((21 : Nat), (54 : Nat), (61 : Nat), (176 : Nat)), ((21 : Nat), (54 : Nat), (75 : Nat), (0 : Nat)), ((61 : Nat), (68 : Nat), (75 : Nat), (0 : Nat)), ((75 : Nat), (77 : Nat), (75 : Nat), (0 : Nat))]) ∈ lw_all := lw_g (lw_at lw_m4 114 rfl) rfl
theorem q934 : (Jvm.Cond.classLink "RelicHouse" (176 : Nat) "RelicHouse$Wrong") ∈ lw_all := lw_g (lw_at lw_m4 115 rfl) rfl
theorem q935 : (Jvm.Cond.methodLink "RelicHouse" (183 : Nat) ({ cls := "RelicHouse", name := "need", desc := "(Z)V" } : Jvm.MethodName)) ∈ lw_all := lw_g (lw_at lw_m4 116 rfl) rfl
theorem q936 : (Jvm.Cond.privateMethod ({ cls := "RelicHouse", name := "need", desc := "(Z)V" } : Jvm.MethodName)) ∈ lw_tbl := lw_at lw_m4 117 rfl
theorem q937 : (Jvm.Cond.instanceMethod ({ cls := "RelicHouse", name := "need", desc := "(Z)V" } : Jvm.MethodName)) ∈ lw_all := lw_g (lw_at lw_m4 118 rfl) rfl
theorem q938 : (Jvm.Cond.code ({ cls := "RelicHouse", name := "need", desc := "(Z)V" } : Jvm.MethodName) prog_1_method_9_code (2 : Nat) (Option.none : Option Jvm.ClassFile.FieldType)) ∈ lw_all := lw_g (lw_at lw_m4 119 rfl) rfl
theorem q939 : (Jvm.Cond.classLink "RelicHouse" (152 : Nat) "java/lang/IllegalArgumentException") ∈ lw_all := lw_g (lw_at lw_m4 120 rfl) rfl
theorem q940 : (Jvm.Cond.methodLink "RelicHouse" (154 : Nat) ({ cls := "java/lang/IllegalArgumentException", name := "<init>", desc := "()V" } : Jvm.MethodName)) ∈ lw_all := lw_g (lw_at lw_m4 121 rfl) rfl
theorem q950 : (Jvm.Cond.classLink "RelicHouse" (187 : Nat) "RelicHouse$HouseReader") ∈ lw_all := lw_g (lw_at lw_m4 131 rfl) rfl
theorem q952 : (Jvm.Cond.methodLink "RelicHouse" (189 : Nat) ({ cls := "RelicHouse$HouseReader", name := "<init>", desc := "([BI)V" } : Jvm.MethodName)) ∈ lw_all := lw_g (lw_at lw_m4 133 rfl) rfl
theorem q1002 : (Jvm.Cond.methodLink "RelicHouse" (192 : Nat) ({ cls := "RelicHouse$HouseReader", name := "reads", desc := "()LRelicHouse$Told;" } : Jvm.MethodName)) ∈ lw_all := lw_g (lw_at lw_m4 183 rfl) rfl
theorem q1145 : (Jvm.Cond.fieldLinkNest "RelicHouse" (180 : Nat) "RelicHouse$Wrong" "kind" "I" "RelicHouse") ∈ lw_tbl := lw_at lw_m5 86 rfl
theorem q1147 : (Jvm.Cond.fieldLinkNest "RelicHouse" (175 : Nat) "RelicHouse$Wrong" "place" "I" "RelicHouse") ∈ lw_tbl := lw_at lw_m5 88 rfl
theorem q1184 : (Jvm.Cond.fieldLinkNest "RelicHouse" (302 : Nat) "RelicHouse$Relic" "sister" "I" "RelicHouse") ∈ lw_tbl := lw_at lw_m5 125 rfl
theorem q1187 : (Jvm.Cond.fieldLinkNest "RelicHouse" (305 : Nat) "RelicHouse$Relic" "ill" "I" "RelicHouse") ∈ lw_tbl := lw_at lw_m5 128 rfl
theorem q1190 : (Jvm.Cond.fieldLinkNest "RelicHouse" (308 : Nat) "RelicHouse$Relic" "worth" "I" "RelicHouse") ∈ lw_tbl := lw_at lw_m5 131 rfl
theorem q1223 : (Jvm.Cond.selects "RelicHouse" ({ cls := "java/lang/Object", name := "getClass", desc := "()Ljava/lang/Class;" } : Jvm.MethodName) ({ cls := "java/lang/Object", name := "getClass", desc := "()Ljava/lang/Class;" } : Jvm.MethodName)) ∈ lw_all := lw_g (lw_at lw_m5 164 rfl) rfl
theorem q1271 : (Jvm.Cond.fieldLinkNest "RelicHouse" (327 : Nat) "RelicHouse$Pilgrim" "ill" "I" "RelicHouse") ∈ lw_tbl := lw_at lw_m5 212 rfl
theorem q1274 : (Jvm.Cond.fieldLinkNest "RelicHouse" (328 : Nat) "RelicHouse$Pilgrim" "need" "I" "RelicHouse") ∈ lw_tbl := lw_at lw_m5 215 rfl
theorem q1286 : (Jvm.Cond.methodLink "RelicHouse" (196 : Nat) ({ cls := "RelicHouse", name := "failed", desc := "(LRelicHouse$Wrong;)I" } : Jvm.MethodName)) ∈ lw_all := lw_g (lw_at lw_m5 227 rfl) rfl
theorem q1287 : (Jvm.Cond.privateMethod ({ cls := "RelicHouse", name := "failed", desc := "(LRelicHouse$Wrong;)I" } : Jvm.MethodName)) ∈ lw_tbl := lw_at lw_m5 228 rfl
theorem q1288 : (Jvm.Cond.instanceMethod ({ cls := "RelicHouse", name := "failed", desc := "(LRelicHouse$Wrong;)I" } : Jvm.MethodName)) ∈ lw_all := lw_g (lw_at lw_m5 229 rfl) rfl
theorem q1289 : (Jvm.Cond.code ({ cls := "RelicHouse", name := "failed", desc := "(LRelicHouse$Wrong;)I" } : Jvm.MethodName) prog_1_method_19_code (2 : Nat) (Option.some Jvm.ClassFile.FieldType.int)) ∈ lw_all := lw_g (lw_at lw_m5 230 rfl) rfl
theorem q1294 : (Jvm.Cond.instanceMethod ({ cls := "RelicHouse", name := "law", desc := "(I)I" } : Jvm.MethodName)) ∈ lw_all := lw_g (lw_at lw_m5 235 rfl) rfl
theorem q1295 : (Jvm.Cond.selects "RelicHouse" ({ cls := "RelicHouse", name := "law", desc := "(I)I" } : Jvm.MethodName) ({ cls := "RelicHouse", name := "law", desc := "(I)I" } : Jvm.MethodName)) ∈ lw_all := lw_g (lw_at lw_m5 236 rfl) rfl
theorem q1296 : (Jvm.Cond.codeWith ({ cls := "RelicHouse", name := "law", desc := "(I)I" } : Jvm.MethodName) prog_1_method_21_code (5 : Nat) (Option.some Jvm.ClassFile.FieldType.int) [((28 : Nat), (54 : Nat), (61 : Nat), (176 : Nat)), ((28 : Nat), (54 : Nat), (75 : Nat), (0 : Nat)), ((61 : Nat), (68 : Nat), (75 : Nat), (0 : Nat)), ((75 : Nat), (77 : Nat), (75 : Nat), (0 : Nat))]) ∈ lw_all := lw_g (lw_at lw_m5 237 rfl) rfl
theorem q1297 : (Jvm.Cond.classLink "RelicHouse" (200 : Nat) "RelicHouse$LawReader") ∈ lw_all := lw_g (lw_at lw_m5 238 rfl) rfl
theorem q1299 : (Jvm.Cond.methodLink "RelicHouse" (202 : Nat) ({ cls := "RelicHouse$LawReader", name := "<init>", desc := "([BI)V" } : Jvm.MethodName)) ∈ lw_all := lw_g (lw_at lw_m6 0 rfl) rfl
theorem q1309 : (Jvm.Cond.methodLink "RelicHouse" (203 : Nat) ({ cls := "RelicHouse$LawReader", name := "reads", desc := "()LRelicHouse$Term;" } : Jvm.MethodName)) ∈ lw_all := lw_g (lw_at lw_m6 10 rfl) rfl
theorem q1417 : (Jvm.Cond.instanceMethod ({ cls := "RelicHouse", name := "work", desc := "(I)I" } : Jvm.MethodName)) ∈ lw_all := lw_g (lw_at lw_m6 118 rfl) rfl
theorem q1418 : (Jvm.Cond.selects "RelicHouse" ({ cls := "RelicHouse", name := "work", desc := "(I)I" } : Jvm.MethodName) ({ cls := "RelicHouse", name := "work", desc := "(I)I" } : Jvm.MethodName)) ∈ lw_all := lw_g (lw_at lw_m6 119 rfl) rfl
theorem q1419 : (Jvm.Cond.codeWith ({ cls := "RelicHouse", name := "work", desc := "(I)I" } : Jvm.MethodName) prog_1_method_22_code (5 : Nat) (Option.some Jvm.ClassFile.FieldType.int) [((28 : Nat), (45 : Nat), (179 : Nat), (176 : Nat)), ((52 : Nat), (172 : Nat), (179 : Nat), (176 : Nat)), ((28 : Nat), (45 : Nat), (193 : Nat), (0 : Nat)), ((52 : Nat), (172 : Nat), (193 : Nat), (0 : Nat)), ((179 : Nat), (186 : Nat), (193 : Nat), (0 : Nat)), ((193 : Nat), (195 : Nat), (193 : Nat), (0 : Nat))]) ∈ lw_all := lw_g (lw_at lw_m6 120 rfl) rfl
theorem q1420 : (Jvm.Cond.classLink "RelicHouse" (205 : Nat) "RelicHouse$WorkReader") ∈ lw_all := lw_g (lw_at lw_m6 121 rfl) rfl
theorem q1422 : (Jvm.Cond.methodLink "RelicHouse" (207 : Nat) ({ cls := "RelicHouse$WorkReader", name := "<init>", desc := "([BILRelicHouse$Told;)V" } : Jvm.MethodName)) ∈ lw_all := lw_g (lw_at lw_m6 123 rfl) rfl
theorem q1435 : (Jvm.Cond.methodLink "RelicHouse" (210 : Nat) ({ cls := "RelicHouse$WorkReader", name := "reads", desc := "()Ljava/util/ArrayList;" } : Jvm.MethodName)) ∈ lw_all := lw_g (lw_at lw_m6 136 rfl) rfl
theorem q1573 : (Jvm.Cond.classLink "RelicHouse" (225 : Nat) "RelicHouse$Step") ∈ lw_all := lw_g (lw_at lw_m7 34 rfl) rfl
theorem q1574 : (Jvm.Cond.methodLink "RelicHouse" (227 : Nat) ({ cls := "RelicHouse$Step", name := "goes", desc := "(LRelicHouse$House;)V" } : Jvm.MethodName)) ∈ lw_all := lw_g (lw_at lw_m7 35 rfl) rfl
theorem q1653 : (Jvm.Cond.instanceMethod ({ cls := "RelicHouse", name := "seen", desc := "(I)I" } : Jvm.MethodName)) ∈ lw_all := lw_g (lw_at lw_m7 114 rfl) rfl
theorem q1654 : (Jvm.Cond.selects "RelicHouse" ({ cls := "RelicHouse", name := "seen", desc := "(I)I" } : Jvm.MethodName) ({ cls := "RelicHouse", name := "seen", desc := "(I)I" } : Jvm.MethodName)) ∈ lw_all := lw_g (lw_at lw_m7 115 rfl) rfl
theorem q1655 : (Jvm.Cond.codeWith ({ cls := "RelicHouse", name := "seen", desc := "(I)I" } : Jvm.MethodName) prog_1_method_23_code (5 : Nat) (Option.some Jvm.ClassFile.FieldType.int) [((27 : Nat), (77 : Nat), (84 : Nat), (176 : Nat)), ((27 : Nat), (77 : Nat), (98 : Nat), (0 : Nat)), ((84 : Nat), (91 : Nat), (98 : Nat), (0 : Nat)), ((98 : Nat), (100 : Nat), (98 : Nat), (0 : Nat))]) ∈ lw_all := lw_g (lw_at lw_m7 116 rfl) rfl
theorem q1656 : (Jvm.Cond.classLink "RelicHouse" (231 : Nat) "RelicHouse$SeenReader") ∈ lw_all := lw_g (lw_at lw_m7 117 rfl) rfl
theorem q1658 : (Jvm.Cond.methodLink "RelicHouse" (233 : Nat) ({ cls := "RelicHouse$SeenReader", name := "<init>", desc := "([BII)V" } : Jvm.MethodName)) ∈ lw_all := lw_g (lw_at lw_m7 119 rfl) rfl
theorem q1665 : (Jvm.Cond.fieldLinkNest "RelicHouse" (245 : Nat) "RelicHouse$SeenReader" "many" "I" "RelicHouse") ∈ lw_tbl := lw_at lw_m7 126 rfl
theorem q1678 : (Jvm.Cond.methodLink "RelicHouse" (236 : Nat) ({ cls := "RelicHouse$SeenReader", name := "reads", desc := "()[I" } : Jvm.MethodName)) ∈ lw_all := lw_g (lw_at lw_m7 139 rfl) rfl
theorem q1693 : (Jvm.Cond.methodLink "RelicHouse" (239 : Nat) ({ cls := "java/lang/System", name := "arraycopy", desc := "(Ljava/lang/Object;ILjava/lang/Object;II)V" } : Jvm.MethodName)) ∈ lw_all := lw_g (lw_at lw_m7 154 rfl) rfl
theorem q1698 : (Jvm.Cond.instanceMethod ({ cls := "RelicHouse", name := "told", desc := "(I)I" } : Jvm.MethodName)) ∈ lw_all := lw_g (lw_at lw_m7 159 rfl) rfl
theorem q1699 : (Jvm.Cond.selects "RelicHouse" ({ cls := "RelicHouse", name := "told", desc := "(I)I" } : Jvm.MethodName) ({ cls := "RelicHouse", name := "told", desc := "(I)I" } : Jvm.MethodName)) ∈ lw_all := lw_g (lw_at lw_m7 160 rfl) rfl
theorem q1700 : (Jvm.Cond.code ({ cls := "RelicHouse", name := "told", desc := "(I)I" } : Jvm.MethodName) prog_1_method_26_code (2 : Nat) (Option.some Jvm.ClassFile.FieldType.int)) ∈ lw_all := lw_g (lw_at lw_m7 161 rfl) rfl
theorem q1701 : (Jvm.Cond.methodLink "RelicHouse" (252 : Nat) ({ cls := "RelicHouse", name := "isIn", desc := "(III)Z" } : Jvm.MethodName)) ∈ lw_all := lw_g (lw_at lw_m7 162 rfl) rfl
theorem q1702 : (Jvm.Cond.static ({ cls := "RelicHouse", name := "isIn", desc := "(III)Z" } : Jvm.MethodName)) ∈ lw_all := lw_g (lw_at lw_m7 163 rfl) rfl
theorem q1703 : (Jvm.Cond.code ({ cls := "RelicHouse", name := "isIn", desc := "(III)Z" } : Jvm.MethodName) prog_1_method_15_code (3 : Nat) (Option.some Jvm.ClassFile.FieldType.boolean)) ∈ lw_all := lw_g (lw_at lw_m7 164 rfl) rfl
theorem q1704 : (Jvm.Cond.methodLink "RelicHouse" (262 : Nat) ({ cls := "RelicHouse$House", name := "kept", desc := "()I" } : Jvm.MethodName)) ∈ lw_all := lw_g (lw_at lw_m7 165 rfl) rfl
theorem q1705 : (Jvm.Cond.methodLink "RelicHouse" (264 : Nat) ({ cls := "RelicHouse$House", name := "cured", desc := "()I" } : Jvm.MethodName)) ∈ lw_all := lw_g (lw_at lw_m7 166 rfl) rfl
theorem q1710 : (Jvm.Cond.methodLink "RelicHouse" (270 : Nat) ({ cls := "RelicHouse$House", name := "powerAll", desc := "()I" } : Jvm.MethodName)) ∈ lw_all := lw_g (lw_at lw_m7 171 rfl) rfl
theorem q1719 : (Jvm.Cond.instanceMethod ({ cls := "RelicHouse", name := "sister", desc := "(II)I" } : Jvm.MethodName)) ∈ lw_all := lw_g (lw_at lw_m7 180 rfl) rfl
theorem q1720 : (Jvm.Cond.selects "RelicHouse" ({ cls := "RelicHouse", name := "sister", desc := "(II)I" } : Jvm.MethodName) ({ cls := "RelicHouse", name := "sister", desc := "(II)I" } : Jvm.MethodName)) ∈ lw_all := lw_g (lw_at lw_m7 181 rfl) rfl
theorem q1721 : (Jvm.Cond.code ({ cls := "RelicHouse", name := "sister", desc := "(II)I" } : Jvm.MethodName) prog_1_method_27_code (3 : Nat) (Option.some Jvm.ClassFile.FieldType.int)) ∈ lw_all := lw_g (lw_at lw_m7 182 rfl) rfl
theorem q1722 : (Jvm.Cond.methodLink "RelicHouse" (273 : Nat) ({ cls := "RelicHouse", name := "needSister", desc := "(I)V" } : Jvm.MethodName)) ∈ lw_all := lw_g (lw_at lw_m7 183 rfl) rfl
theorem q1723 : (Jvm.Cond.privateMethod ({ cls := "RelicHouse", name := "needSister", desc := "(I)V" } : Jvm.MethodName)) ∈ lw_tbl := lw_at lw_m7 184 rfl
theorem q1724 : (Jvm.Cond.instanceMethod ({ cls := "RelicHouse", name := "needSister", desc := "(I)V" } : Jvm.MethodName)) ∈ lw_all := lw_g (lw_at lw_m7 185 rfl) rfl
theorem q1725 : (Jvm.Cond.code ({ cls := "RelicHouse", name := "needSister", desc := "(I)V" } : Jvm.MethodName) prog_1_method_11_code (2 : Nat) (Option.none : Option Jvm.ClassFile.FieldType)) ∈ lw_all := lw_g (lw_at lw_m7 186 rfl) rfl
theorem q1726 : (Jvm.Cond.methodLink "RelicHouse" (161 : Nat) ({ cls := "RelicHouse", name := "needThere", desc := "(II)V" } : Jvm.MethodName)) ∈ lw_all := lw_g (lw_at lw_m7 187 rfl) rfl
theorem q1727 : (Jvm.Cond.privateMethod ({ cls := "RelicHouse", name := "needThere", desc := "(II)V" } : Jvm.MethodName)) ∈ lw_tbl := lw_at lw_m7 188 rfl
theorem q1728 : (Jvm.Cond.instanceMethod ({ cls := "RelicHouse", name := "needThere", desc := "(II)V" } : Jvm.MethodName)) ∈ lw_all := lw_g (lw_at lw_m7 189 rfl) rfl
theorem q1729 : (Jvm.Cond.code ({ cls := "RelicHouse", name := "needThere", desc := "(II)V" } : Jvm.MethodName) prog_1_method_10_code (3 : Nat) (Option.none : Option Jvm.ClassFile.FieldType)) ∈ lw_all := lw_g (lw_at lw_m7 190 rfl) rfl
theorem q1730 : (Jvm.Cond.classLink "RelicHouse" (155 : Nat) "java/util/NoSuchElementException") ∈ lw_all := lw_g (lw_at lw_m7 191 rfl) rfl
theorem q1739 : (Jvm.Cond.methodLink "RelicHouse" (157 : Nat) ({ cls := "java/util/NoSuchElementException", name := "<init>", desc := "()V" } : Jvm.MethodName)) ∈ lw_all := lw_g (lw_at lw_m7 200 rfl) rfl
theorem q1745 : (Jvm.Cond.methodLink "RelicHouse" (282 : Nat) ({ cls := "RelicHouse$Told", name := "of", desc := "(I)I" } : Jvm.MethodName)) ∈ lw_all := lw_g (lw_at lw_m7 206 rfl) rfl
theorem q1750 : (Jvm.Cond.instanceMethod ({ cls := "RelicHouse", name := "relic", desc := "(II)I" } : Jvm.MethodName)) ∈ lw_all := lw_g (lw_at lw_m7 211 rfl) rfl
theorem q1751 : (Jvm.Cond.selects "RelicHouse" ({ cls := "RelicHouse", name := "relic", desc := "(II)I" } : Jvm.MethodName) ({ cls := "RelicHouse", name := "relic", desc := "(II)I" } : Jvm.MethodName)) ∈ lw_all := lw_g (lw_at lw_m7 212 rfl) rfl
theorem q1752 : (Jvm.Cond.code ({ cls := "RelicHouse", name := "relic", desc := "(II)I" } : Jvm.MethodName) prog_1_method_29_code (3 : Nat) (Option.some Jvm.ClassFile.FieldType.int)) ∈ lw_all := lw_g (lw_at lw_m7 213 rfl) rfl
theorem q1753 : (Jvm.Cond.methodLink "RelicHouse" (295 : Nat) ({ cls := "RelicHouse", name := "needRelic", desc := "(I)V" } : Jvm.MethodName)) ∈ lw_all := lw_g (lw_at lw_m7 214 rfl) rfl
theorem q1754 : (Jvm.Cond.privateMethod ({ cls := "RelicHouse", name := "needRelic", desc := "(I)V" } : Jvm.MethodName)) ∈ lw_tbl := lw_at lw_m7 215 rfl
theorem q1755 : (Jvm.Cond.instanceMethod ({ cls := "RelicHouse", name := "needRelic", desc := "(I)V" } : Jvm.MethodName)) ∈ lw_all := lw_g (lw_at lw_m7 216 rfl) rfl
theorem q1756 : (Jvm.Cond.code ({ cls := "RelicHouse", name := "needRelic", desc := "(I)V" } : Jvm.MethodName) prog_1_method_12_code (2 : Nat) (Option.none : Option Jvm.ClassFile.FieldType)) ∈ lw_all := lw_g (lw_at lw_m7 217 rfl) rfl
theorem q1757 : (Jvm.Cond.methodLink "RelicHouse" (314 : Nat) ({ cls := "RelicHouse$House", name := "powerOf", desc := "(I)I" } : Jvm.MethodName)) ∈ lw_all := lw_g (lw_at lw_m7 218 rfl) rfl
theorem q1758 : (Jvm.Cond.methodLink "RelicHouse" (317 : Nat) ({ cls := "RelicHouse", name := "curable", desc := "(I)I" } : Jvm.MethodName)) ∈ lw_all := lw_g (lw_at lw_m7 219 rfl) rfl
theorem q1759 : (Jvm.Cond.privateMethod ({ cls := "RelicHouse", name := "curable", desc := "(I)I" } : Jvm.MethodName)) ∈ lw_tbl := lw_at lw_m7 220 rfl
theorem q1760 : (Jvm.Cond.instanceMethod ({ cls := "RelicHouse", name := "curable", desc := "(I)I" } : Jvm.MethodName)) ∈ lw_all := lw_g (lw_at lw_m7 221 rfl) rfl
theorem q1761 : (Jvm.Cond.code ({ cls := "RelicHouse", name := "curable", desc := "(I)I" } : Jvm.MethodName) prog_1_method_28_code (4 : Nat) (Option.some Jvm.ClassFile.FieldType.int)) ∈ lw_all := lw_g (lw_at lw_m7 222 rfl) rfl
theorem q1762 : (Jvm.Cond.methodLink "RelicHouse" (291 : Nat) ({ cls := "RelicHouse$House", name := "isAble", desc := "(II)Z" } : Jvm.MethodName)) ∈ lw_all := lw_g (lw_at lw_m7 223 rfl) rfl
theorem q1767 : (Jvm.Cond.instanceMethod ({ cls := "RelicHouse", name := "pilgrim", desc := "(II)I" } : Jvm.MethodName)) ∈ lw_all := lw_g (lw_at lw_m7 228 rfl) rfl
theorem q1768 : (Jvm.Cond.selects "RelicHouse" ({ cls := "RelicHouse", name := "pilgrim", desc := "(II)I" } : Jvm.MethodName) ({ cls := "RelicHouse", name := "pilgrim", desc := "(II)I" } : Jvm.MethodName)) ∈ lw_all := lw_g (lw_at lw_m7 229 rfl) rfl
theorem q1769 : (Jvm.Cond.code ({ cls := "RelicHouse", name := "pilgrim", desc := "(II)I" } : Jvm.MethodName) prog_1_method_31_code (3 : Nat) (Option.some Jvm.ClassFile.FieldType.int)) ∈ lw_all := lw_g (lw_at lw_m7 230 rfl) rfl
theorem q1770 : (Jvm.Cond.methodLink "RelicHouse" (320 : Nat) ({ cls := "RelicHouse", name := "needPilgrim", desc := "(I)V" } : Jvm.MethodName)) ∈ lw_all := lw_g (lw_at lw_m7 231 rfl) rfl
theorem q1771 : (Jvm.Cond.privateMethod ({ cls := "RelicHouse", name := "needPilgrim", desc := "(I)V" } : Jvm.MethodName)) ∈ lw_tbl := lw_at lw_m7 232 rfl
theorem q1772 : (Jvm.Cond.instanceMethod ({ cls := "RelicHouse", name := "needPilgrim", desc := "(I)V" } : Jvm.MethodName)) ∈ lw_all := lw_g (lw_at lw_m7 233 rfl) rfl
theorem q1773 : (Jvm.Cond.code ({ cls := "RelicHouse", name := "needPilgrim", desc := "(I)V" } : Jvm.MethodName) prog_1_method_13_code (2 : Nat) (Option.none : Option Jvm.ClassFile.FieldType)) ∈ lw_all := lw_g (lw_at lw_m7 234 rfl) rfl
theorem q1774 : (Jvm.Cond.methodLink "RelicHouse" (323 : Nat) ({ cls := "RelicHouse", name := "pilgrimOf", desc := "(I)LRelicHouse$Pilgrim;" } : Jvm.MethodName)) ∈ lw_all := lw_g (lw_at lw_m7 235 rfl) rfl
theorem q1775 : (Jvm.Cond.methodLink "RelicHouse" (330 : Nat) ({ cls := "RelicHouse", name := "able", desc := "(LRelicHouse$House;II)I" } : Jvm.MethodName)) ∈ lw_all := lw_g (lw_at lw_m7 236 rfl) rfl
theorem q1776 : (Jvm.Cond.static ({ cls := "RelicHouse", name := "able", desc := "(LRelicHouse$House;II)I" } : Jvm.MethodName)) ∈ lw_all := lw_g (lw_at lw_m7 237 rfl) rfl
theorem q1777 : (Jvm.Cond.code ({ cls := "RelicHouse", name := "able", desc := "(LRelicHouse$House;II)I" } : Jvm.MethodName) prog_1_method_30_code (5 : Nat) (Option.some Jvm.ClassFile.FieldType.int)) ∈ lw_all := lw_g (lw_at lw_m7 238 rfl) rfl
theorem q1782 : (Jvm.Cond.instanceMethod ({ cls := "RelicHouse", name := "would", desc := "(IIIIIIII)I" } : Jvm.MethodName)) ∈ lw_all := lw_g (lw_at lw_m8 3 rfl) rfl
theorem q1783 : (Jvm.Cond.selects "RelicHouse" ({ cls := "RelicHouse", name := "would", desc := "(IIIIIIII)I" } : Jvm.MethodName) ({ cls := "RelicHouse", name := "would", desc := "(IIIIIIII)I" } : Jvm.MethodName)) ∈ lw_all := lw_g (lw_at lw_m8 4 rfl) rfl
theorem q1784 : (Jvm.Cond.code ({ cls := "RelicHouse", name := "would", desc := "(IIIIIIII)I" } : Jvm.MethodName) prog_1_method_32_code (9 : Nat) (Option.some Jvm.ClassFile.FieldType.int)) ∈ lw_all := lw_g (lw_at lw_m8 5 rfl) rfl
theorem q1785 : (Jvm.Cond.methodLink "RelicHouse" (334 : Nat) ({ cls := "RelicHouse", name := "powerBy", desc := "(IIIIIIII)I" } : Jvm.MethodName)) ∈ lw_all := lw_g (lw_at lw_m8 6 rfl) rfl
theorem q1790 : (Jvm.Cond.instanceMethod ({ cls := "RelicHouse", name := "can", desc := "(II)Z" } : Jvm.MethodName)) ∈ lw_all := lw_g (lw_at lw_m8 11 rfl) rfl
theorem q1791 : (Jvm.Cond.selects "RelicHouse" ({ cls := "RelicHouse", name := "can", desc := "(II)Z" } : Jvm.MethodName) ({ cls := "RelicHouse", name := "can", desc := "(II)Z" } : Jvm.MethodName)) ∈ lw_all := lw_g (lw_at lw_m8 12 rfl) rfl
theorem q1792 : (Jvm.Cond.code ({ cls := "RelicHouse", name := "can", desc := "(II)Z" } : Jvm.MethodName) prog_1_method_33_code (3 : Nat) (Option.some Jvm.ClassFile.FieldType.boolean)) ∈ lw_all := lw_g (lw_at lw_m8 13 rfl) rfl
theorem q1797 : (Jvm.Cond.instanceMethod ({ cls := "RelicHouse", name := "when", desc := "(II)I" } : Jvm.MethodName)) ∈ lw_all := lw_g (lw_at lw_m8 18 rfl) rfl
theorem q1798 : (Jvm.Cond.selects "RelicHouse" ({ cls := "RelicHouse", name := "when", desc := "(II)I" } : Jvm.MethodName) ({ cls := "RelicHouse", name := "when", desc := "(II)I" } : Jvm.MethodName)) ∈ lw_all := lw_g (lw_at lw_m8 19 rfl) rfl
theorem q1799 : (Jvm.Cond.code ({ cls := "RelicHouse", name := "when", desc := "(II)I" } : Jvm.MethodName) prog_1_method_34_code (5 : Nat) (Option.some Jvm.ClassFile.FieldType.int)) ∈ lw_all := lw_g (lw_at lw_m8 20 rfl) rfl
theorem q1800 : (Jvm.Cond.methodLink "RelicHouse" (341 : Nat) ({ cls := "RelicHouse$House", name := "passes", desc := "()V" } : Jvm.MethodName)) ∈ lw_all := lw_g (lw_at lw_m8 21 rfl) rfl
theorem q1805 : (Jvm.Cond.instanceMethod ({ cls := "RelicHouse", name := "ahead", desc := "(III)I" } : Jvm.MethodName)) ∈ lw_all := lw_g (lw_at lw_m8 26 rfl) rfl
theorem q1806 : (Jvm.Cond.selects "RelicHouse" ({ cls := "RelicHouse", name := "ahead", desc := "(III)I" } : Jvm.MethodName) ({ cls := "RelicHouse", name := "ahead", desc := "(III)I" } : Jvm.MethodName)) ∈ lw_all := lw_g (lw_at lw_m8 27 rfl) rfl
theorem q1807 : (Jvm.Cond.code ({ cls := "RelicHouse", name := "ahead", desc := "(III)I" } : Jvm.MethodName) prog_1_method_35_code (6 : Nat) (Option.some Jvm.ClassFile.FieldType.int)) ∈ lw_all := lw_g (lw_at lw_m8 28 rfl) rfl
theorem q1808 : (Jvm.Cond.methodLink "RelicHouse" (348 : Nat) ({ cls := "RelicHouse$House", name := "lapses", desc := "(I)Z" } : Jvm.MethodName)) ∈ lw_all := lw_g (lw_at lw_m8 29 rfl) rfl
theorem q1813 : (Jvm.Cond.instanceMethod ({ cls := "RelicHouse", name := "matched", desc := "(I)I" } : Jvm.MethodName)) ∈ lw_all := lw_g (lw_at lw_m8 34 rfl) rfl
theorem q1814 : (Jvm.Cond.selects "RelicHouse" ({ cls := "RelicHouse", name := "matched", desc := "(I)I" } : Jvm.MethodName) ({ cls := "RelicHouse", name := "matched", desc := "(I)I" } : Jvm.MethodName)) ∈ lw_all := lw_g (lw_at lw_m8 35 rfl) rfl
theorem q1815 : (Jvm.Cond.code ({ cls := "RelicHouse", name := "matched", desc := "(I)I" } : Jvm.MethodName) prog_1_method_46_code (2 : Nat) (Option.some Jvm.ClassFile.FieldType.int)) ∈ lw_all := lw_g (lw_at lw_m8 36 rfl) rfl
theorem q1820 : (Jvm.Cond.instanceMethod ({ cls := "RelicHouse", name := "lapsed", desc := "(I)I" } : Jvm.MethodName)) ∈ lw_all := lw_g (lw_at lw_m8 41 rfl) rfl
theorem q1821 : (Jvm.Cond.selects "RelicHouse" ({ cls := "RelicHouse", name := "lapsed", desc := "(I)I" } : Jvm.MethodName) ({ cls := "RelicHouse", name := "lapsed", desc := "(I)I" } : Jvm.MethodName)) ∈ lw_all := lw_g (lw_at lw_m8 42 rfl) rfl
theorem q1822 : (Jvm.Cond.code ({ cls := "RelicHouse", name := "lapsed", desc := "(I)I" } : Jvm.MethodName) prog_1_method_50_code (6 : Nat) (Option.some Jvm.ClassFile.FieldType.int)) ∈ lw_all := lw_g (lw_at lw_m8 43 rfl) rfl
theorem q1823 : (Jvm.Cond.methodLink "RelicHouse" (368 : Nat) ({ cls := "RelicHouse", name := "isSeen", desc := "(I)Z" } : Jvm.MethodName)) ∈ lw_all := lw_g (lw_at lw_m8 44 rfl) rfl
theorem q1824 : (Jvm.Cond.privateMethod ({ cls := "RelicHouse", name := "isSeen", desc := "(I)Z" } : Jvm.MethodName)) ∈ lw_tbl := lw_at lw_m8 45 rfl
theorem q1825 : (Jvm.Cond.instanceMethod ({ cls := "RelicHouse", name := "isSeen", desc := "(I)Z" } : Jvm.MethodName)) ∈ lw_all := lw_g (lw_at lw_m8 46 rfl) rfl
theorem q1826 : (Jvm.Cond.code ({ cls := "RelicHouse", name := "isSeen", desc := "(I)Z" } : Jvm.MethodName) prog_1_method_49_code (3 : Nat) (Option.some Jvm.ClassFile.FieldType.boolean)) ∈ lw_all := lw_g (lw_at lw_m8 47 rfl) rfl
theorem q1827 : (Jvm.Cond.methodLink "RelicHouse" (362 : Nat) ({ cls := "RelicHouse", name := "lapsable", desc := "()I" } : Jvm.MethodName)) ∈ lw_all := lw_g (lw_at lw_m8 48 rfl) rfl
theorem q1828 : (Jvm.Cond.privateMethod ({ cls := "RelicHouse", name := "lapsable", desc := "()I" } : Jvm.MethodName)) ∈ lw_tbl := lw_at lw_m8 49 rfl
theorem q1829 : (Jvm.Cond.instanceMethod ({ cls := "RelicHouse", name := "lapsable", desc := "()I" } : Jvm.MethodName)) ∈ lw_all := lw_g (lw_at lw_m8 50 rfl) rfl
theorem q1830 : (Jvm.Cond.code ({ cls := "RelicHouse", name := "lapsable", desc := "()I" } : Jvm.MethodName) prog_1_method_47_code (3 : Nat) (Option.some Jvm.ClassFile.FieldType.int)) ∈ lw_all := lw_g (lw_at lw_m8 51 rfl) rfl
theorem q1831 : (Jvm.Cond.methodLink "RelicHouse" (365 : Nat) ({ cls := "RelicHouse", name := "powerIf", desc := "(II)I" } : Jvm.MethodName)) ∈ lw_all := lw_g (lw_at lw_m8 52 rfl) rfl
theorem q1832 : (Jvm.Cond.privateMethod ({ cls := "RelicHouse", name := "powerIf", desc := "(II)I" } : Jvm.MethodName)) ∈ lw_tbl := lw_at lw_m8 53 rfl
theorem q1833 : (Jvm.Cond.instanceMethod ({ cls := "RelicHouse", name := "powerIf", desc := "(II)I" } : Jvm.MethodName)) ∈ lw_all := lw_g (lw_at lw_m8 54 rfl) rfl
theorem q1834 : (Jvm.Cond.code ({ cls := "RelicHouse", name := "powerIf", desc := "(II)I" } : Jvm.MethodName) prog_1_method_48_code (5 : Nat) (Option.some Jvm.ClassFile.FieldType.int)) ∈ lw_all := lw_g (lw_at lw_m8 55 rfl) rfl
theorem q1835 : (Jvm.Cond.methodLink "RelicHouse" (359 : Nat) ({ cls := "RelicHouse$House", name := "othersOf", desc := "(I)I" } : Jvm.MethodName)) ∈ lw_all := lw_g (lw_at lw_m8 56 rfl) rfl
theorem q1840 : (Jvm.Cond.instanceMethod ({ cls := "RelicHouse", name := "ask", desc := "(I)I" } : Jvm.MethodName)) ∈ lw_all := lw_g (lw_at lw_m8 61 rfl) rfl
theorem q1841 : (Jvm.Cond.selects "RelicHouse" ({ cls := "RelicHouse", name := "ask", desc := "(I)I" } : Jvm.MethodName) ({ cls := "RelicHouse", name := "ask", desc := "(I)I" } : Jvm.MethodName)) ∈ lw_all := lw_g (lw_at lw_m8 62 rfl) rfl
theorem q1842 : (Jvm.Cond.code ({ cls := "RelicHouse", name := "ask", desc := "(I)I" } : Jvm.MethodName) prog_1_method_52_code (6 : Nat) (Option.some Jvm.ClassFile.FieldType.int)) ∈ lw_all := lw_g (lw_at lw_m8 63 rfl) rfl
theorem q1843 : (Jvm.Cond.methodLink "RelicHouse" (371 : Nat) ({ cls := "RelicHouse", name := "worstAt", desc := "(I)I" } : Jvm.MethodName)) ∈ lw_all := lw_g (lw_at lw_m8 64 rfl) rfl
theorem q1844 : (Jvm.Cond.privateMethod ({ cls := "RelicHouse", name := "worstAt", desc := "(I)I" } : Jvm.MethodName)) ∈ lw_tbl := lw_at lw_m8 65 rfl
theorem q1845 : (Jvm.Cond.instanceMethod ({ cls := "RelicHouse", name := "worstAt", desc := "(I)I" } : Jvm.MethodName)) ∈ lw_all := lw_g (lw_at lw_m8 66 rfl) rfl
theorem q1846 : (Jvm.Cond.code ({ cls := "RelicHouse", name := "worstAt", desc := "(I)I" } : Jvm.MethodName) prog_1_method_51_code (5 : Nat) (Option.some Jvm.ClassFile.FieldType.int)) ∈ lw_all := lw_g (lw_at lw_m8 67 rfl) rfl
theorem q1851 : (Jvm.Cond.instanceMethod ({ cls := "RelicHouse", name := "best", desc := "(III)J" } : Jvm.MethodName)) ∈ lw_all := lw_g (lw_at lw_m8 72 rfl) rfl
theorem q1852 : (Jvm.Cond.selects "RelicHouse" ({ cls := "RelicHouse", name := "best", desc := "(III)J" } : Jvm.MethodName) ({ cls := "RelicHouse", name := "best", desc := "(III)J" } : Jvm.MethodName)) ∈ lw_all := lw_g (lw_at lw_m8 73 rfl) rfl
theorem q1853 : (Jvm.Cond.code ({ cls := "RelicHouse", name := "best", desc := "(III)J" } : Jvm.MethodName) prog_1_method_56_code (4 : Nat) (Option.some Jvm.ClassFile.FieldType.long)) ∈ lw_all := lw_g (lw_at lw_m8 74 rfl) rfl
theorem q1854 : (Jvm.Cond.methodLink "RelicHouse" (380 : Nat) ({ cls := "RelicHouse", name := "bestOn", desc := "(IIIII)J" } : Jvm.MethodName)) ∈ lw_all := lw_g (lw_at lw_m8 75 rfl) rfl
theorem q1855 : (Jvm.Cond.privateMethod ({ cls := "RelicHouse", name := "bestOn", desc := "(IIIII)J" } : Jvm.MethodName)) ∈ lw_tbl := lw_at lw_m8 76 rfl
theorem q1856 : (Jvm.Cond.instanceMethod ({ cls := "RelicHouse", name := "bestOn", desc := "(IIIII)J" } : Jvm.MethodName)) ∈ lw_all := lw_g (lw_at lw_m8 77 rfl) rfl
theorem q1857 : (Jvm.Cond.code ({ cls := "RelicHouse", name := "bestOn", desc := "(IIIII)J" } : Jvm.MethodName) prog_1_method_55_code (12 : Nat) (Option.some Jvm.ClassFile.FieldType.long)) ∈ lw_all := lw_g (lw_at lw_m8 78 rfl) rfl
theorem q1858 : (Jvm.Cond.methodLink "RelicHouse" (376 : Nat) ({ cls := "RelicHouse", name := "power", desc := "(I)J" } : Jvm.MethodName)) ∈ lw_all := lw_g (lw_at lw_m8 79 rfl) rfl
theorem q1859 : (Jvm.Cond.static ({ cls := "RelicHouse", name := "power", desc := "(I)J" } : Jvm.MethodName)) ∈ lw_all := lw_g (lw_at lw_m8 80 rfl) rfl
theorem q1860 : (Jvm.Cond.code ({ cls := "RelicHouse", name := "power", desc := "(I)J" } : Jvm.MethodName) prog_1_method_54_code (4 : Nat) (Option.some Jvm.ClassFile.FieldType.long)) ∈ lw_all := lw_g (lw_at lw_m8 81 rfl) rfl
theorem q1861 : (Jvm.Cond.constantLong "RelicHouse" (374 : Nat) (16 : Int64)) ∈ lw_all := lw_g (lw_at lw_m8 82 rfl) rfl
theorem q1862 : (Jvm.Cond.methodLink "RelicHouse" (384 : Nat) ({ cls := "java/lang/Math", name := "max", desc := "(JJ)J" } : Jvm.MethodName)) ∈ lw_all := lw_g (lw_at lw_m8 83 rfl) rfl
theorem q1865 : (Jvm.Cond.methodLink "RelicHouse" (387 : Nat) ({ cls := "RelicHouse", name := "least", desc := "(JJI)J" } : Jvm.MethodName)) ∈ lw_all := lw_g (lw_at lw_m8 86 rfl) rfl
theorem q1866 : (Jvm.Cond.static ({ cls := "RelicHouse", name := "least", desc := "(JJI)J" } : Jvm.MethodName)) ∈ lw_all := lw_g (lw_at lw_m8 87 rfl) rfl
theorem q1867 : (Jvm.Cond.code ({ cls := "RelicHouse", name := "least", desc := "(JJI)J" } : Jvm.MethodName) prog_1_method_53_code (11 : Nat) (Option.some Jvm.ClassFile.FieldType.long)) ∈ lw_all := lw_g (lw_at lw_m8 88 rfl) rfl
theorem q1872 : (Jvm.Cond.instanceMethod ({ cls := "RelicHouse", name := "without", desc := "(III)J" } : Jvm.MethodName)) ∈ lw_all := lw_g (lw_at lw_m8 93 rfl) rfl
theorem q1873 : (Jvm.Cond.selects "RelicHouse" ({ cls := "RelicHouse", name := "without", desc := "(III)J" } : Jvm.MethodName) ({ cls := "RelicHouse", name := "without", desc := "(III)J" } : Jvm.MethodName)) ∈ lw_all := lw_g (lw_at lw_m8 94 rfl) rfl
theorem q1874 : (Jvm.Cond.code ({ cls := "RelicHouse", name := "without", desc := "(III)J" } : Jvm.MethodName) prog_1_method_57_code (7 : Nat) (Option.some Jvm.ClassFile.FieldType.long)) ∈ lw_all := lw_g (lw_at lw_m8 95 rfl) rfl
theorem q1879 : (Jvm.Cond.instanceMethod ({ cls := "RelicHouse", name := "ring", desc := "(I)I" } : Jvm.MethodName)) ∈ lw_all := lw_g (lw_at lw_m8 100 rfl) rfl
theorem q1880 : (Jvm.Cond.selects "RelicHouse" ({ cls := "RelicHouse", name := "ring", desc := "(I)I" } : Jvm.MethodName) ({ cls := "RelicHouse", name := "ring", desc := "(I)I" } : Jvm.MethodName)) ∈ lw_all := lw_g (lw_at lw_m8 101 rfl) rfl
theorem q1881 : (Jvm.Cond.code ({ cls := "RelicHouse", name := "ring", desc := "(I)I" } : Jvm.MethodName) prog_1_method_58_code (4 : Nat) (Option.some Jvm.ClassFile.FieldType.int)) ∈ lw_all := lw_g (lw_at lw_m8 102 rfl) rfl
theorem q1886 : (Jvm.Cond.instanceMethod ({ cls := "RelicHouse", name := "follows", desc := "(II)I" } : Jvm.MethodName)) ∈ lw_all := lw_g (lw_at lw_m8 107 rfl) rfl
theorem q1887 : (Jvm.Cond.selects "RelicHouse" ({ cls := "RelicHouse", name := "follows", desc := "(II)I" } : Jvm.MethodName) ({ cls := "RelicHouse", name := "follows", desc := "(II)I" } : Jvm.MethodName)) ∈ lw_all := lw_g (lw_at lw_m8 108 rfl) rfl
theorem q1888 : (Jvm.Cond.code ({ cls := "RelicHouse", name := "follows", desc := "(II)I" } : Jvm.MethodName) prog_1_method_59_code (5 : Nat) (Option.some Jvm.ClassFile.FieldType.int)) ∈ lw_all := lw_g (lw_at lw_m8 109 rfl) rfl
theorem q1889 : (Jvm.Cond.constant "RelicHouse" (391 : Nat) (1000000 : Int32)) ∈ lw_all := lw_g (lw_at lw_m8 110 rfl) rfl
theorem q1894 : (Jvm.Cond.instanceMethod ({ cls := "RelicHouse", name := "tempted", desc := "(III)I" } : Jvm.MethodName)) ∈ lw_all := lw_g (lw_at lw_m8 115 rfl) rfl
theorem q1895 : (Jvm.Cond.selects "RelicHouse" ({ cls := "RelicHouse", name := "tempted", desc := "(III)I" } : Jvm.MethodName) ({ cls := "RelicHouse", name := "tempted", desc := "(III)I" } : Jvm.MethodName)) ∈ lw_all := lw_g (lw_at lw_m8 116 rfl) rfl
theorem q1896 : (Jvm.Cond.code ({ cls := "RelicHouse", name := "tempted", desc := "(III)I" } : Jvm.MethodName) prog_1_method_61_code (8 : Nat) (Option.some Jvm.ClassFile.FieldType.int)) ∈ lw_all := lw_g (lw_at lw_m8 117 rfl) rfl
theorem q1897 : (Jvm.Cond.methodLink "RelicHouse" (392 : Nat) ({ cls := "RelicHouse", name := "hasBy", desc := "(IIII)I" } : Jvm.MethodName)) ∈ lw_all := lw_g (lw_at lw_m8 118 rfl) rfl
theorem q1898 : (Jvm.Cond.static ({ cls := "RelicHouse", name := "hasBy", desc := "(IIII)I" } : Jvm.MethodName)) ∈ lw_all := lw_g (lw_at lw_m8 119 rfl) rfl
theorem q1899 : (Jvm.Cond.code ({ cls := "RelicHouse", name := "hasBy", desc := "(IIII)I" } : Jvm.MethodName) prog_1_method_60_code (4 : Nat) (Option.some Jvm.ClassFile.FieldType.int)) ∈ lw_all := lw_g (lw_at lw_m8 120 rfl) rfl
theorem q1904 : (Jvm.Cond.instanceMethod ({ cls := "RelicHouse", name := "alms", desc := "(III)I" } : Jvm.MethodName)) ∈ lw_all := lw_g (lw_at lw_m8 125 rfl) rfl
theorem q1905 : (Jvm.Cond.selects "RelicHouse" ({ cls := "RelicHouse", name := "alms", desc := "(III)I" } : Jvm.MethodName) ({ cls := "RelicHouse", name := "alms", desc := "(III)I" } : Jvm.MethodName)) ∈ lw_all := lw_g (lw_at lw_m8 126 rfl) rfl
theorem q1906 : (Jvm.Cond.code ({ cls := "RelicHouse", name := "alms", desc := "(III)I" } : Jvm.MethodName) prog_1_method_63_code (5 : Nat) (Option.some Jvm.ClassFile.FieldType.int)) ∈ lw_all := lw_g (lw_at lw_m8 127 rfl) rfl
theorem q1907 : (Jvm.Cond.methodLink "RelicHouse" (396 : Nat) ({ cls := "RelicHouse", name := "given", desc := "(II)I" } : Jvm.MethodName)) ∈ lw_all := lw_g (lw_at lw_m8 128 rfl) rfl
theorem q1908 : (Jvm.Cond.privateMethod ({ cls := "RelicHouse", name := "given", desc := "(II)I" } : Jvm.MethodName)) ∈ lw_tbl := lw_at lw_m8 129 rfl
theorem q1909 : (Jvm.Cond.instanceMethod ({ cls := "RelicHouse", name := "given", desc := "(II)I" } : Jvm.MethodName)) ∈ lw_all := lw_g (lw_at lw_m8 130 rfl) rfl
theorem q1910 : (Jvm.Cond.code ({ cls := "RelicHouse", name := "given", desc := "(II)I" } : Jvm.MethodName) prog_1_method_62_code (5 : Nat) (Option.some Jvm.ClassFile.FieldType.int)) ∈ lw_all := lw_g (lw_at lw_m8 131 rfl) rfl
theorem q1915 : (Jvm.Cond.instanceMethod ({ cls := "RelicHouse", name := "strongest", desc := "(I)I" } : Jvm.MethodName)) ∈ lw_all := lw_g (lw_at lw_m8 136 rfl) rfl
theorem q1916 : (Jvm.Cond.selects "RelicHouse" ({ cls := "RelicHouse", name := "strongest", desc := "(I)I" } : Jvm.MethodName) ({ cls := "RelicHouse", name := "strongest", desc := "(I)I" } : Jvm.MethodName)) ∈ lw_all := lw_g (lw_at lw_m8 137 rfl) rfl
theorem q1917 : (Jvm.Cond.code ({ cls := "RelicHouse", name := "strongest", desc := "(I)I" } : Jvm.MethodName) prog_1_method_37_code (4 : Nat) (Option.some Jvm.ClassFile.FieldType.int)) ∈ lw_all := lw_g (lw_at lw_m8 138 rfl) rfl
theorem q1922 : (Jvm.Cond.instanceMethod ({ cls := "RelicHouse", name := "hopeless", desc := "(I)I" } : Jvm.MethodName)) ∈ lw_all := lw_g (lw_at lw_m8 143 rfl) rfl
theorem q1923 : (Jvm.Cond.selects "RelicHouse" ({ cls := "RelicHouse", name := "hopeless", desc := "(I)I" } : Jvm.MethodName) ({ cls := "RelicHouse", name := "hopeless", desc := "(I)I" } : Jvm.MethodName)) ∈ lw_all := lw_g (lw_at lw_m8 144 rfl) rfl
theorem q1924 : (Jvm.Cond.code ({ cls := "RelicHouse", name := "hopeless", desc := "(I)I" } : Jvm.MethodName) prog_1_method_36_code (5 : Nat) (Option.some Jvm.ClassFile.FieldType.int)) ∈ lw_all := lw_g (lw_at lw_m8 145 rfl) rfl
theorem q1929 : (Jvm.Cond.instanceMethod ({ cls := "RelicHouse", name := "eldest", desc := "(I)I" } : Jvm.MethodName)) ∈ lw_all := lw_g (lw_at lw_m8 150 rfl) rfl
theorem q1930 : (Jvm.Cond.selects "RelicHouse" ({ cls := "RelicHouse", name := "eldest", desc := "(I)I" } : Jvm.MethodName) ({ cls := "RelicHouse", name := "eldest", desc := "(I)I" } : Jvm.MethodName)) ∈ lw_all := lw_g (lw_at lw_m8 151 rfl) rfl
theorem q1931 : (Jvm.Cond.code ({ cls := "RelicHouse", name := "eldest", desc := "(I)I" } : Jvm.MethodName) prog_1_method_39_code (4 : Nat) (Option.some Jvm.ClassFile.FieldType.int)) ∈ lw_all := lw_g (lw_at lw_m8 152 rfl) rfl
theorem q1936 : (Jvm.Cond.instanceMethod ({ cls := "RelicHouse", name := "needs", desc := "(I)I" } : Jvm.MethodName)) ∈ lw_all := lw_g (lw_at lw_m8 157 rfl) rfl
theorem q1937 : (Jvm.Cond.selects "RelicHouse" ({ cls := "RelicHouse", name := "needs", desc := "(I)I" } : Jvm.MethodName) ({ cls := "RelicHouse", name := "needs", desc := "(I)I" } : Jvm.MethodName)) ∈ lw_all := lw_g (lw_at lw_m8 158 rfl) rfl
theorem q1938 : (Jvm.Cond.code ({ cls := "RelicHouse", name := "needs", desc := "(I)I" } : Jvm.MethodName) prog_1_method_41_code (4 : Nat) (Option.some Jvm.ClassFile.FieldType.int)) ∈ lw_all := lw_g (lw_at lw_m8 159 rfl) rfl
theorem q1943 : (Jvm.Cond.instanceMethod ({ cls := "RelicHouse", name := "strength", desc := "(I)I" } : Jvm.MethodName)) ∈ lw_all := lw_g (lw_at lw_m8 164 rfl) rfl
theorem q1944 : (Jvm.Cond.selects "RelicHouse" ({ cls := "RelicHouse", name := "strength", desc := "(I)I" } : Jvm.MethodName) ({ cls := "RelicHouse", name := "strength", desc := "(I)I" } : Jvm.MethodName)) ∈ lw_all := lw_g (lw_at lw_m8 165 rfl) rfl
theorem q1945 : (Jvm.Cond.code ({ cls := "RelicHouse", name := "strength", desc := "(I)I" } : Jvm.MethodName) prog_1_method_42_code (4 : Nat) (Option.some Jvm.ClassFile.FieldType.int)) ∈ lw_all := lw_g (lw_at lw_m8 166 rfl) rfl
theorem q1950 : (Jvm.Cond.instanceMethod ({ cls := "RelicHouse", name := "weakest", desc := "(I)I" } : Jvm.MethodName)) ∈ lw_all := lw_g (lw_at lw_m8 171 rfl) rfl
theorem q1951 : (Jvm.Cond.selects "RelicHouse" ({ cls := "RelicHouse", name := "weakest", desc := "(I)I" } : Jvm.MethodName) ({ cls := "RelicHouse", name := "weakest", desc := "(I)I" } : Jvm.MethodName)) ∈ lw_all := lw_g (lw_at lw_m8 172 rfl) rfl
theorem q1952 : (Jvm.Cond.code ({ cls := "RelicHouse", name := "weakest", desc := "(I)I" } : Jvm.MethodName) prog_1_method_43_code (4 : Nat) (Option.some Jvm.ClassFile.FieldType.int)) ∈ lw_all := lw_g (lw_at lw_m8 173 rfl) rfl
theorem q1957 : (Jvm.Cond.instanceMethod ({ cls := "RelicHouse", name := "year", desc := "(III)I" } : Jvm.MethodName)) ∈ lw_all := lw_g (lw_at lw_m8 178 rfl) rfl
theorem q1958 : (Jvm.Cond.selects "RelicHouse" ({ cls := "RelicHouse", name := "year", desc := "(III)I" } : Jvm.MethodName) ({ cls := "RelicHouse", name := "year", desc := "(III)I" } : Jvm.MethodName)) ∈ lw_all := lw_g (lw_at lw_m8 179 rfl) rfl
theorem q1959 : (Jvm.Cond.code ({ cls := "RelicHouse", name := "year", desc := "(III)I" } : Jvm.MethodName) prog_1_method_66_code (5 : Nat) (Option.some Jvm.ClassFile.FieldType.int)) ∈ lw_all := lw_g (lw_at lw_m8 180 rfl) rfl
theorem q1960 : (Jvm.Cond.methodLink "RelicHouse" (415 : Nat) ({ cls := "RelicHouse", name := "yearBy", desc := "(II)LRelicHouse$House;" } : Jvm.MethodName)) ∈ lw_all := lw_g (lw_at lw_m8 181 rfl) rfl
theorem q1961 : (Jvm.Cond.privateMethod ({ cls := "RelicHouse", name := "yearBy", desc := "(II)LRelicHouse$House;" } : Jvm.MethodName)) ∈ lw_tbl := lw_at lw_m8 182 rfl
theorem q1962 : (Jvm.Cond.instanceMethod ({ cls := "RelicHouse", name := "yearBy", desc := "(II)LRelicHouse$House;" } : Jvm.MethodName)) ∈ lw_all := lw_g (lw_at lw_m8 183 rfl) rfl
theorem q1963 : (Jvm.Cond.code ({ cls := "RelicHouse", name := "yearBy", desc := "(II)LRelicHouse$House;" } : Jvm.MethodName) prog_1_method_65_code (6 : Nat) (Option.some (Jvm.ClassFile.FieldType.object "RelicHouse$House"))) ∈ lw_all := lw_g (lw_at lw_m8 184 rfl) rfl
theorem q1964 : (Jvm.Cond.methodLink "RelicHouse" (409 : Nat) ({ cls := "RelicHouse", name := "draw", desc := "(I)I" } : Jvm.MethodName)) ∈ lw_all := lw_g (lw_at lw_m8 185 rfl) rfl
theorem q1965 : (Jvm.Cond.privateMethod ({ cls := "RelicHouse", name := "draw", desc := "(I)I" } : Jvm.MethodName)) ∈ lw_tbl := lw_at lw_m8 186 rfl
theorem q1966 : (Jvm.Cond.instanceMethod ({ cls := "RelicHouse", name := "draw", desc := "(I)I" } : Jvm.MethodName)) ∈ lw_all := lw_g (lw_at lw_m8 187 rfl) rfl
theorem q1967 : (Jvm.Cond.code ({ cls := "RelicHouse", name := "draw", desc := "(I)I" } : Jvm.MethodName) prog_1_method_64_code (2 : Nat) (Option.some Jvm.ClassFile.FieldType.int)) ∈ lw_all := lw_g (lw_at lw_m8 188 rfl) rfl
theorem q1968 : (Jvm.Cond.constant "RelicHouse" (402 : Nat) (1103515245 : Int32)) ∈ lw_all := lw_g (lw_at lw_m8 189 rfl) rfl
theorem q1969 : (Jvm.Cond.methodLink "RelicHouse" (412 : Nat) ({ cls := "RelicHouse$House", name := "cures", desc := "(II)Z" } : Jvm.MethodName)) ∈ lw_all := lw_g (lw_at lw_m8 190 rfl) rfl
theorem q1974 : (Jvm.Cond.instanceMethod ({ cls := "RelicHouse", name := "span", desc := "(IIIII)I" } : Jvm.MethodName)) ∈ lw_all := lw_g (lw_at lw_m8 195 rfl) rfl
theorem q1975 : (Jvm.Cond.selects "RelicHouse" ({ cls := "RelicHouse", name := "span", desc := "(IIIII)I" } : Jvm.MethodName) ({ cls := "RelicHouse", name := "span", desc := "(IIIII)I" } : Jvm.MethodName)) ∈ lw_all := lw_g (lw_at lw_m8 196 rfl) rfl
theorem q1976 : (Jvm.Cond.code ({ cls := "RelicHouse", name := "span", desc := "(IIIII)I" } : Jvm.MethodName) prog_1_method_67_code (11 : Nat) (Option.some Jvm.ClassFile.FieldType.int)) ∈ lw_all := lw_g (lw_at lw_m8 197 rfl) rfl
theorem q2607 : (Jvm.Cond.castable "RelicHouse" "java/lang/Object") ∈ lw_tbl := lw_at lw_m11 108 rfl
theorem in_X1 : ∀ w ∈ wsX10, w ∈ lw_all := lw_in wsX10 [685, 687, 689, 691, 693, 695, 697, 699, 701, 703, 705, 707, 709, 711, 713, 715, 717, 719, 721, 723, 725, 727, 729, 731, 733] (by decide +kernel) (by decide +kernel)
/-! RelicHouse$Told -/
def RX2 : String := "RelicHouse$Told"
def TX2 : u_T := fun k => match k with
  | 0 => ("RelicHouse$Told", "tempted", "[I", true)
  | 1 => ("RelicHouse$Told", "vow", "[I", true)
  | 2 => ("RelicHouse$Told", "relics", "Ljava/util/ArrayList;", true)
  | 3 => ("RelicHouse$Told", "pilgrims", "Ljava/util/ArrayList;", true)
  | 4 => ("RelicHouse$Told", "sisters", "I", false)
  | _ => ("RelicHouse$Told", "clauses", "I", false)
def tyX2 : Nat → FieldType := fun k => match k with
  | 0 => .array .int
  | 1 => .array .int
  | 2 => .object "java/util/ArrayList"
  | 3 => .object "java/util/ArrayList"
  | 4 => .int
  | _ => .int
abbrev wsX20 : List Cond := u_ws RX2 TX2 6
theorem nmX2 : ∀ a, a < 6 → ∀ b, b < 6 → a ≠ b → (TX2 a).2.1 ≠ (TX2 b).2.1 := by decide +kernel
theorem tyX2_ok : ∀ k, k < 6 → parseFieldDescriptor (TX2 k).2.2.1 = some (tyX2 k) := by decide +kernel
abbrev cX2_init : ByteArray := prog_28_method_1_code
def yX2_init : MethodName := ⟨RX2, "<init>", "()V"⟩
abbrev cX2_of : ByteArray := prog_28_method_2_code
def yX2_of : MethodName := ⟨RX2, "of", "(I)I"⟩
theorem q101 : (Jvm.Cond.initialized "RelicHouse$Told") ∈ lw_all := lw_g (lw_at lw_m1 2 rfl) rfl
theorem q162 : (Jvm.Cond.instantiable "RelicHouse$Told" (6 : Nat)) ∈ lw_all := lw_g (lw_at lw_m1 63 rfl) rfl
theorem q164 : (Jvm.Cond.instanceMethod ({ cls := "RelicHouse$Told", name := "<init>", desc := "()V" } : Jvm.MethodName)) ∈ lw_all := lw_g (lw_at lw_m1 65 rfl) rfl
theorem q165 : (Jvm.Cond.code ({ cls := "RelicHouse$Told", name := "<init>", desc := "()V" } : Jvm.MethodName) prog_28_method_1_code (2 : Nat) (Option.none : Option Jvm.ClassFile.FieldType)) ∈ lw_all := lw_g (lw_at lw_m1 66 rfl) rfl
theorem q166 : (Jvm.Cond.methodLink "RelicHouse$Told" (3 : Nat) ({ cls := "java/lang/Object", name := "<init>", desc := "()V" } : Jvm.MethodName)) ∈ lw_all := lw_g (lw_at lw_m1 67 rfl) rfl
theorem q167 : (Jvm.Cond.classLink "RelicHouse$Told" (18 : Nat) "java/util/ArrayList") ∈ lw_all := lw_g (lw_at lw_m1 68 rfl) rfl
theorem q169 : (Jvm.Cond.methodLink "RelicHouse$Told" (20 : Nat) ({ cls := "java/util/ArrayList", name := "<init>", desc := "(I)V" } : Jvm.MethodName)) ∈ lw_all := lw_g (lw_at lw_m1 70 rfl) rfl
theorem q510 : (Jvm.Cond.fieldLink "RelicHouse$Told" (9 : Nat) "RelicHouse$Told" "tempted" "[I") ∈ lw_all := lw_g (lw_at lw_m2 171 rfl) rfl
theorem q514 : (Jvm.Cond.fieldLink "RelicHouse$Told" (15 : Nat) "RelicHouse$Told" "vow" "[I") ∈ lw_all := lw_g (lw_at lw_m2 175 rfl) rfl
theorem q517 : (Jvm.Cond.fieldLink "RelicHouse$Told" (23 : Nat) "RelicHouse$Told" "relics" "Ljava/util/ArrayList;") ∈ lw_all := lw_g (lw_at lw_m2 178 rfl) rfl
theorem q521 : (Jvm.Cond.fieldLink "RelicHouse$Told" (27 : Nat) "RelicHouse$Told" "pilgrims" "Ljava/util/ArrayList;") ∈ lw_all := lw_g (lw_at lw_m2 182 rfl) rfl
theorem q530 : (Jvm.Cond.laysFinal "RelicHouse$Told" "RelicHouse$Told" "tempted" "[I") ∈ lw_all := lw_g (lw_at lw_m2 191 rfl) rfl
theorem q531 : (Jvm.Cond.soleField "RelicHouse$Told" "tempted") ∈ lw_all := lw_g (lw_at lw_m2 192 rfl) rfl
theorem q532 : (Jvm.Cond.laysFinal "RelicHouse$Told" "RelicHouse$Told" "vow" "[I") ∈ lw_all := lw_g (lw_at lw_m2 193 rfl) rfl
theorem q533 : (Jvm.Cond.soleField "RelicHouse$Told" "vow") ∈ lw_all := lw_g (lw_at lw_m2 194 rfl) rfl
theorem q534 : (Jvm.Cond.laysFinal "RelicHouse$Told" "RelicHouse$Told" "relics" "Ljava/util/ArrayList;") ∈ lw_all := lw_g (lw_at lw_m2 195 rfl) rfl
theorem q535 : (Jvm.Cond.soleField "RelicHouse$Told" "relics") ∈ lw_all := lw_g (lw_at lw_m2 196 rfl) rfl
theorem q536 : (Jvm.Cond.laysFinal "RelicHouse$Told" "RelicHouse$Told" "pilgrims" "Ljava/util/ArrayList;") ∈ lw_all := lw_g (lw_at lw_m2 197 rfl) rfl
theorem q537 : (Jvm.Cond.soleField "RelicHouse$Told" "pilgrims") ∈ lw_all := lw_g (lw_at lw_m2 198 rfl) rfl
theorem q538 : (Jvm.Cond.lays "RelicHouse$Told" "RelicHouse$Told" "sisters" "I") ∈ lw_all := lw_g (lw_at lw_m2 199 rfl) rfl
theorem q539 : (Jvm.Cond.soleField "RelicHouse$Told" "sisters") ∈ lw_all := lw_g (lw_at lw_m2 200 rfl) rfl
theorem q540 : (Jvm.Cond.lays "RelicHouse$Told" "RelicHouse$Told" "clauses" "I") ∈ lw_all := lw_g (lw_at lw_m2 201 rfl) rfl
theorem q541 : (Jvm.Cond.soleField "RelicHouse$Told" "clauses") ∈ lw_all := lw_g (lw_at lw_m2 202 rfl) rfl
theorem q542 : (Jvm.Cond.superclass "RelicHouse$Told" "java/lang/Object") ∈ lw_all := lw_g (lw_at lw_m2 203 rfl) rfl
theorem q806 : (Jvm.Cond.instanceMethod ({ cls := "RelicHouse$Told", name := "of", desc := "(I)I" } : Jvm.MethodName)) ∈ lw_all := lw_g (lw_at lw_m3 227 rfl) rfl
theorem q807 : (Jvm.Cond.selects "RelicHouse$Told" ({ cls := "RelicHouse$Told", name := "of", desc := "(I)I" } : Jvm.MethodName) ({ cls := "RelicHouse$Told", name := "of", desc := "(I)I" } : Jvm.MethodName)) ∈ lw_all := lw_g (lw_at lw_m3 228 rfl) rfl
theorem q808 : (Jvm.Cond.code ({ cls := "RelicHouse$Told", name := "of", desc := "(I)I" } : Jvm.MethodName) prog_28_method_2_code (4 : Nat) (Option.some Jvm.ClassFile.FieldType.int)) ∈ lw_all := lw_g (lw_at lw_m3 229 rfl) rfl
theorem q809 : (Jvm.Cond.methodLink "RelicHouse$Told" (30 : Nat) ({ cls := "java/util/ArrayList", name := "size", desc := "()I" } : Jvm.MethodName)) ∈ lw_all := lw_g (lw_at lw_m3 230 rfl) rfl
theorem q810 : (Jvm.Cond.methodLink "RelicHouse$Told" (34 : Nat) ({ cls := "java/util/ArrayList", name := "get", desc := "(I)Ljava/lang/Object;" } : Jvm.MethodName)) ∈ lw_all := lw_g (lw_at lw_m3 231 rfl) rfl
theorem q811 : (Jvm.Cond.classLink "RelicHouse$Told" (38 : Nat) "RelicHouse$Relic") ∈ lw_all := lw_g (lw_at lw_m3 232 rfl) rfl
theorem q1182 : (Jvm.Cond.fieldLinkNest "RelicHouse$Told" (40 : Nat) "RelicHouse$Relic" "sister" "I" "RelicHouse") ∈ lw_tbl := lw_at lw_m5 123 rfl
theorem q1246 : (Jvm.Cond.selects "RelicHouse$Told" ({ cls := "java/lang/Object", name := "getClass", desc := "()Ljava/lang/Class;" } : Jvm.MethodName) ({ cls := "java/lang/Object", name := "getClass", desc := "()Ljava/lang/Class;" } : Jvm.MethodName)) ∈ lw_all := lw_g (lw_at lw_m5 187 rfl) rfl
theorem q2608 : (Jvm.Cond.castable "RelicHouse$Told" "java/lang/Object") ∈ lw_tbl := lw_at lw_m11 109 rfl
theorem in_X2 : ∀ w ∈ wsX20, w ∈ lw_all := lw_in wsX20 [530, 532, 534, 536, 538, 540] (by decide +kernel) (by decide +kernel)
/-! RelicHouse$Term -/
def RX3 : String := "RelicHouse$Term"
abbrev cX3_init : ByteArray := prog_26_method_1_code
def yX3_init : MethodName := ⟨RX3, "<init>", "()V"⟩
theorem q121 : (Jvm.Cond.initialized "RelicHouse$Term") ∈ lw_all := lw_g (lw_at lw_m1 22 rfl) rfl
theorem q556 : (Jvm.Cond.instanceMethod ({ cls := "RelicHouse$Term", name := "<init>", desc := "()V" } : Jvm.MethodName)) ∈ lw_all := lw_g (lw_at lw_m2 217 rfl) rfl
theorem q557 : (Jvm.Cond.code ({ cls := "RelicHouse$Term", name := "<init>", desc := "()V" } : Jvm.MethodName) prog_26_method_1_code (1 : Nat) (Option.none : Option Jvm.ClassFile.FieldType)) ∈ lw_all := lw_g (lw_at lw_m2 218 rfl) rfl
theorem q558 : (Jvm.Cond.methodLink "RelicHouse$Term" (1 : Nat) ({ cls := "java/lang/Object", name := "<init>", desc := "()V" } : Jvm.MethodName)) ∈ lw_all := lw_g (lw_at lw_m2 219 rfl) rfl
theorem q857 : (Jvm.Cond.declares ({ cls := "RelicHouse$Term", name := "of", desc := "([I)I" } : Jvm.MethodName)) ∈ lw_tbl := lw_at lw_m4 38 rfl
theorem q858 : (Jvm.Cond.sameMethod "RelicHouse$Term" "RelicHouse$Term" "of" "([I)I") ∈ lw_all := lw_g (lw_at lw_m4 39 rfl) rfl
/-! RelicHouse$Two -/
def RX4 : String := "RelicHouse$Two"
abbrev cX4_init : ByteArray := prog_29_method_1_code
def yX4_init : MethodName := ⟨RX4, "<init>", "(LRelicHouse$Term;LRelicHouse$Term;)V"⟩
abbrev cX4_of : ByteArray := prog_29_method_3_code
def yX4_of : MethodName := ⟨RX4, "of", "([I)I"⟩
theorem q122 : (Jvm.Cond.initialized "RelicHouse$Two") ∈ lw_all := lw_g (lw_at lw_m1 23 rfl) rfl
theorem q567 : (Jvm.Cond.instanceMethod ({ cls := "RelicHouse$Two", name := "<init>", desc := "(LRelicHouse$Term;LRelicHouse$Term;)V" } : Jvm.MethodName)) ∈ lw_all := lw_g (lw_at lw_m2 228 rfl) rfl
theorem q568 : (Jvm.Cond.code ({ cls := "RelicHouse$Two", name := "<init>", desc := "(LRelicHouse$Term;LRelicHouse$Term;)V" } : Jvm.MethodName) prog_29_method_1_code (3 : Nat) (Option.none : Option Jvm.ClassFile.FieldType)) ∈ lw_all := lw_g (lw_at lw_m2 229 rfl) rfl
theorem q569 : (Jvm.Cond.methodLinkNest "RelicHouse$Two" (1 : Nat) ({ cls := "RelicHouse$Term", name := "<init>", desc := "()V" } : Jvm.MethodName) "RelicHouse") ∈ lw_tbl := lw_at lw_m2 230 rfl
theorem q570 : (Jvm.Cond.fieldLink "RelicHouse$Two" (7 : Nat) "RelicHouse$Two" "a" "LRelicHouse$Term;") ∈ lw_all := lw_g (lw_at lw_m2 231 rfl) rfl
theorem q571 : (Jvm.Cond.fieldLink "RelicHouse$Two" (13 : Nat) "RelicHouse$Two" "b" "LRelicHouse$Term;") ∈ lw_all := lw_g (lw_at lw_m2 232 rfl) rfl
theorem q573 : (Jvm.Cond.soleField "RelicHouse$Two" "a") ∈ lw_all := lw_g (lw_at lw_m2 234 rfl) rfl
theorem q575 : (Jvm.Cond.soleField "RelicHouse$Two" "b") ∈ lw_all := lw_g (lw_at lw_m2 236 rfl) rfl
theorem q860 : (Jvm.Cond.instanceMethod ({ cls := "RelicHouse$Two", name := "of", desc := "([I)I" } : Jvm.MethodName)) ∈ lw_all := lw_g (lw_at lw_m4 41 rfl) rfl
theorem q861 : (Jvm.Cond.code ({ cls := "RelicHouse$Two", name := "of", desc := "([I)I" } : Jvm.MethodName) prog_29_method_3_code (2 : Nat) (Option.some Jvm.ClassFile.FieldType.int)) ∈ lw_all := lw_g (lw_at lw_m4 42 rfl) rfl
theorem q862 : (Jvm.Cond.methodLink "RelicHouse$Two" (16 : Nat) ({ cls := "RelicHouse$Term", name := "of", desc := "([I)I" } : Jvm.MethodName)) ∈ lw_all := lw_g (lw_at lw_m4 43 rfl) rfl
theorem q867 : (Jvm.Cond.methodLink "RelicHouse$Two" (20 : Nat) ({ cls := "RelicHouse$Two", name := "with", desc := "(II)I" } : Jvm.MethodName)) ∈ lw_all := lw_g (lw_at lw_m4 48 rfl) rfl
theorem q868 : (Jvm.Cond.declares ({ cls := "RelicHouse$Two", name := "with", desc := "(II)I" } : Jvm.MethodName)) ∈ lw_tbl := lw_at lw_m4 49 rfl
theorem q869 : (Jvm.Cond.sameMethod "RelicHouse$Two" "RelicHouse$Two" "with" "(II)I") ∈ lw_all := lw_g (lw_at lw_m4 50 rfl) rfl
/-! RelicHouse$Minus -/
def RX5 : String := "RelicHouse$Minus"
def TX5 : u_T := fun k => match k with
  | 0 => ("RelicHouse$Two", "a", "LRelicHouse$Term;", true)
  | _ => ("RelicHouse$Two", "b", "LRelicHouse$Term;", true)
def tyX5 : Nat → FieldType := fun k => match k with
  | 0 => .object "RelicHouse$Term"
  | _ => .object "RelicHouse$Term"
abbrev wsX50 : List Cond := u_ws RX5 TX5 2
theorem nmX5 : ∀ a, a < 2 → ∀ b, b < 2 → a ≠ b → (TX5 a).2.1 ≠ (TX5 b).2.1 := by decide +kernel
theorem tyX5_ok : ∀ k, k < 2 → parseFieldDescriptor (TX5 k).2.2.1 = some (tyX5 k) := by decide +kernel
abbrev cX5_init : ByteArray := prog_16_method_1_code
def yX5_init : MethodName := ⟨RX5, "<init>", "(LRelicHouse$Term;LRelicHouse$Term;)V"⟩
abbrev cX5_with : ByteArray := prog_16_method_2_code
def yX5_with : MethodName := ⟨RX5, "with", "(II)I"⟩
theorem q123 : (Jvm.Cond.initialized "RelicHouse$Minus") ∈ lw_all := lw_g (lw_at lw_m1 24 rfl) rfl
theorem q547 : (Jvm.Cond.instantiable "RelicHouse$Minus" (2 : Nat)) ∈ lw_all := lw_g (lw_at lw_m2 208 rfl) rfl
theorem q597 : (Jvm.Cond.instanceMethod ({ cls := "RelicHouse$Minus", name := "<init>", desc := "(LRelicHouse$Term;LRelicHouse$Term;)V" } : Jvm.MethodName)) ∈ lw_all := lw_g (lw_at lw_m3 18 rfl) rfl
theorem q598 : (Jvm.Cond.code ({ cls := "RelicHouse$Minus", name := "<init>", desc := "(LRelicHouse$Term;LRelicHouse$Term;)V" } : Jvm.MethodName) prog_16_method_1_code (3 : Nat) (Option.none : Option Jvm.ClassFile.FieldType)) ∈ lw_all := lw_g (lw_at lw_m3 19 rfl) rfl
theorem q599 : (Jvm.Cond.methodLink "RelicHouse$Minus" (1 : Nat) ({ cls := "RelicHouse$Two", name := "<init>", desc := "(LRelicHouse$Term;LRelicHouse$Term;)V" } : Jvm.MethodName)) ∈ lw_all := lw_g (lw_at lw_m3 20 rfl) rfl
theorem q600 : (Jvm.Cond.laysFinal "RelicHouse$Minus" "RelicHouse$Two" "a" "LRelicHouse$Term;") ∈ lw_all := lw_g (lw_at lw_m3 21 rfl) rfl
theorem q601 : (Jvm.Cond.laysFinal "RelicHouse$Minus" "RelicHouse$Two" "b" "LRelicHouse$Term;") ∈ lw_all := lw_g (lw_at lw_m3 22 rfl) rfl
theorem q602 : (Jvm.Cond.superclass "RelicHouse$Minus" "RelicHouse$Two") ∈ lw_all := lw_g (lw_at lw_m3 23 rfl) rfl
theorem q880 : (Jvm.Cond.selects "RelicHouse$Minus" ({ cls := "RelicHouse$Two", name := "with", desc := "(II)I" } : Jvm.MethodName) ({ cls := "RelicHouse$Minus", name := "with", desc := "(II)I" } : Jvm.MethodName)) ∈ lw_all := lw_g (lw_at lw_m4 61 rfl) rfl
theorem q881 : (Jvm.Cond.instanceMethod ({ cls := "RelicHouse$Minus", name := "with", desc := "(II)I" } : Jvm.MethodName)) ∈ lw_all := lw_g (lw_at lw_m4 62 rfl) rfl
theorem q882 : (Jvm.Cond.code ({ cls := "RelicHouse$Minus", name := "with", desc := "(II)I" } : Jvm.MethodName) prog_16_method_2_code (3 : Nat) (Option.some Jvm.ClassFile.FieldType.int)) ∈ lw_all := lw_g (lw_at lw_m4 63 rfl) rfl
theorem q896 : (Jvm.Cond.selects "RelicHouse$Minus" ({ cls := "RelicHouse$Term", name := "of", desc := "([I)I" } : Jvm.MethodName) ({ cls := "RelicHouse$Two", name := "of", desc := "([I)I" } : Jvm.MethodName)) ∈ lw_all := lw_g (lw_at lw_m4 77 rfl) rfl
theorem q1237 : (Jvm.Cond.selects "RelicHouse$Minus" ({ cls := "java/lang/Object", name := "getClass", desc := "()Ljava/lang/Class;" } : Jvm.MethodName) ({ cls := "java/lang/Object", name := "getClass", desc := "()Ljava/lang/Class;" } : Jvm.MethodName)) ∈ lw_all := lw_g (lw_at lw_m5 178 rfl) rfl
theorem q2613 : (Jvm.Cond.castable "RelicHouse$Minus" "java/lang/Object") ∈ lw_tbl := lw_at lw_m11 114 rfl
theorem in_X5 : ∀ w ∈ wsX50, w ∈ lw_all := lw_in wsX50 [600, 601] (by decide +kernel) (by decide +kernel)
/-! RelicHouse$Plus -/
def RX6 : String := "RelicHouse$Plus"
def TX6 : u_T := fun k => match k with
  | 0 => ("RelicHouse$Two", "a", "LRelicHouse$Term;", true)
  | _ => ("RelicHouse$Two", "b", "LRelicHouse$Term;", true)
def tyX6 : Nat → FieldType := fun k => match k with
  | 0 => .object "RelicHouse$Term"
  | _ => .object "RelicHouse$Term"
abbrev wsX60 : List Cond := u_ws RX6 TX6 2
theorem nmX6 : ∀ a, a < 2 → ∀ b, b < 2 → a ≠ b → (TX6 a).2.1 ≠ (TX6 b).2.1 := by decide +kernel
theorem tyX6_ok : ∀ k, k < 2 → parseFieldDescriptor (TX6 k).2.2.1 = some (tyX6 k) := by decide +kernel
abbrev cX6_init : ByteArray := prog_21_method_1_code
def yX6_init : MethodName := ⟨RX6, "<init>", "(LRelicHouse$Term;LRelicHouse$Term;)V"⟩
abbrev cX6_with : ByteArray := prog_21_method_2_code
def yX6_with : MethodName := ⟨RX6, "with", "(II)I"⟩
theorem q124 : (Jvm.Cond.initialized "RelicHouse$Plus") ∈ lw_all := lw_g (lw_at lw_m1 25 rfl) rfl
theorem q549 : (Jvm.Cond.instantiable "RelicHouse$Plus" (2 : Nat)) ∈ lw_all := lw_g (lw_at lw_m2 210 rfl) rfl
theorem q564 : (Jvm.Cond.instanceMethod ({ cls := "RelicHouse$Plus", name := "<init>", desc := "(LRelicHouse$Term;LRelicHouse$Term;)V" } : Jvm.MethodName)) ∈ lw_all := lw_g (lw_at lw_m2 225 rfl) rfl
theorem q565 : (Jvm.Cond.code ({ cls := "RelicHouse$Plus", name := "<init>", desc := "(LRelicHouse$Term;LRelicHouse$Term;)V" } : Jvm.MethodName) prog_21_method_1_code (3 : Nat) (Option.none : Option Jvm.ClassFile.FieldType)) ∈ lw_all := lw_g (lw_at lw_m2 226 rfl) rfl
theorem q566 : (Jvm.Cond.methodLink "RelicHouse$Plus" (1 : Nat) ({ cls := "RelicHouse$Two", name := "<init>", desc := "(LRelicHouse$Term;LRelicHouse$Term;)V" } : Jvm.MethodName)) ∈ lw_all := lw_g (lw_at lw_m2 227 rfl) rfl
theorem q572 : (Jvm.Cond.laysFinal "RelicHouse$Plus" "RelicHouse$Two" "a" "LRelicHouse$Term;") ∈ lw_all := lw_g (lw_at lw_m2 233 rfl) rfl
theorem q574 : (Jvm.Cond.laysFinal "RelicHouse$Plus" "RelicHouse$Two" "b" "LRelicHouse$Term;") ∈ lw_all := lw_g (lw_at lw_m2 235 rfl) rfl
theorem q576 : (Jvm.Cond.superclass "RelicHouse$Plus" "RelicHouse$Two") ∈ lw_all := lw_g (lw_at lw_m2 237 rfl) rfl
theorem q887 : (Jvm.Cond.selects "RelicHouse$Plus" ({ cls := "RelicHouse$Two", name := "with", desc := "(II)I" } : Jvm.MethodName) ({ cls := "RelicHouse$Plus", name := "with", desc := "(II)I" } : Jvm.MethodName)) ∈ lw_all := lw_g (lw_at lw_m4 68 rfl) rfl
theorem q888 : (Jvm.Cond.instanceMethod ({ cls := "RelicHouse$Plus", name := "with", desc := "(II)I" } : Jvm.MethodName)) ∈ lw_all := lw_g (lw_at lw_m4 69 rfl) rfl
theorem q889 : (Jvm.Cond.code ({ cls := "RelicHouse$Plus", name := "with", desc := "(II)I" } : Jvm.MethodName) prog_21_method_2_code (3 : Nat) (Option.some Jvm.ClassFile.FieldType.int)) ∈ lw_all := lw_g (lw_at lw_m4 70 rfl) rfl
theorem q899 : (Jvm.Cond.selects "RelicHouse$Plus" ({ cls := "RelicHouse$Term", name := "of", desc := "([I)I" } : Jvm.MethodName) ({ cls := "RelicHouse$Two", name := "of", desc := "([I)I" } : Jvm.MethodName)) ∈ lw_all := lw_g (lw_at lw_m4 80 rfl) rfl
theorem q1242 : (Jvm.Cond.selects "RelicHouse$Plus" ({ cls := "java/lang/Object", name := "getClass", desc := "()Ljava/lang/Class;" } : Jvm.MethodName) ({ cls := "java/lang/Object", name := "getClass", desc := "()Ljava/lang/Class;" } : Jvm.MethodName)) ∈ lw_all := lw_g (lw_at lw_m5 183 rfl) rfl
theorem q2614 : (Jvm.Cond.castable "RelicHouse$Plus" "java/lang/Object") ∈ lw_tbl := lw_at lw_m11 115 rfl
theorem in_X6 : ∀ w ∈ wsX60, w ∈ lw_all := lw_in wsX60 [572, 574] (by decide +kernel) (by decide +kernel)
/-! RelicHouse$Fact -/
def RX7 : String := "RelicHouse$Fact"
def TX7 : u_T := fun k => match k with
  | _ => ("RelicHouse$Fact", "which", "I", true)
def tyX7 : Nat → FieldType := fun k => match k with
  | _ => .int
abbrev wsX70 : List Cond := u_ws RX7 TX7 1
theorem nmX7 : ∀ a, a < 1 → ∀ b, b < 1 → a ≠ b → (TX7 a).2.1 ≠ (TX7 b).2.1 := by decide +kernel
theorem tyX7_ok : ∀ k, k < 1 → parseFieldDescriptor (TX7 k).2.2.1 = some (tyX7 k) := by decide +kernel
abbrev cX7_init : ByteArray := prog_8_method_1_code
def yX7_init : MethodName := ⟨RX7, "<init>", "(I)V"⟩
abbrev cX7_of : ByteArray := prog_8_method_2_code
def yX7_of : MethodName := ⟨RX7, "of", "([I)I"⟩
theorem q125 : (Jvm.Cond.initialized "RelicHouse$Fact") ∈ lw_all := lw_g (lw_at lw_m1 26 rfl) rfl
theorem q551 : (Jvm.Cond.instantiable "RelicHouse$Fact" (1 : Nat)) ∈ lw_all := lw_g (lw_at lw_m2 212 rfl) rfl
theorem q553 : (Jvm.Cond.instanceMethod ({ cls := "RelicHouse$Fact", name := "<init>", desc := "(I)V" } : Jvm.MethodName)) ∈ lw_all := lw_g (lw_at lw_m2 214 rfl) rfl
theorem q554 : (Jvm.Cond.code ({ cls := "RelicHouse$Fact", name := "<init>", desc := "(I)V" } : Jvm.MethodName) prog_8_method_1_code (2 : Nat) (Option.none : Option Jvm.ClassFile.FieldType)) ∈ lw_all := lw_g (lw_at lw_m2 215 rfl) rfl
theorem q555 : (Jvm.Cond.methodLinkNest "RelicHouse$Fact" (1 : Nat) ({ cls := "RelicHouse$Term", name := "<init>", desc := "()V" } : Jvm.MethodName) "RelicHouse") ∈ lw_tbl := lw_at lw_m2 216 rfl
theorem q559 : (Jvm.Cond.fieldLink "RelicHouse$Fact" (7 : Nat) "RelicHouse$Fact" "which" "I") ∈ lw_all := lw_g (lw_at lw_m2 220 rfl) rfl
theorem q560 : (Jvm.Cond.laysFinal "RelicHouse$Fact" "RelicHouse$Fact" "which" "I") ∈ lw_all := lw_g (lw_at lw_m2 221 rfl) rfl
theorem q561 : (Jvm.Cond.soleField "RelicHouse$Fact" "which") ∈ lw_all := lw_g (lw_at lw_m2 222 rfl) rfl
theorem q562 : (Jvm.Cond.superclass "RelicHouse$Fact" "RelicHouse$Term") ∈ lw_all := lw_g (lw_at lw_m2 223 rfl) rfl
theorem q863 : (Jvm.Cond.instanceMethod ({ cls := "RelicHouse$Fact", name := "of", desc := "([I)I" } : Jvm.MethodName)) ∈ lw_all := lw_g (lw_at lw_m4 44 rfl) rfl
theorem q864 : (Jvm.Cond.code ({ cls := "RelicHouse$Fact", name := "of", desc := "([I)I" } : Jvm.MethodName) prog_8_method_2_code (2 : Nat) (Option.some Jvm.ClassFile.FieldType.int)) ∈ lw_all := lw_g (lw_at lw_m4 45 rfl) rfl
theorem q893 : (Jvm.Cond.selects "RelicHouse$Fact" ({ cls := "RelicHouse$Term", name := "of", desc := "([I)I" } : Jvm.MethodName) ({ cls := "RelicHouse$Fact", name := "of", desc := "([I)I" } : Jvm.MethodName)) ∈ lw_all := lw_g (lw_at lw_m4 74 rfl) rfl
theorem q1229 : (Jvm.Cond.selects "RelicHouse$Fact" ({ cls := "java/lang/Object", name := "getClass", desc := "()Ljava/lang/Class;" } : Jvm.MethodName) ({ cls := "java/lang/Object", name := "getClass", desc := "()Ljava/lang/Class;" } : Jvm.MethodName)) ∈ lw_all := lw_g (lw_at lw_m5 170 rfl) rfl
theorem q2615 : (Jvm.Cond.castable "RelicHouse$Fact" "java/lang/Object") ∈ lw_tbl := lw_at lw_m11 116 rfl
theorem in_X7 : ∀ w ∈ wsX70, w ∈ lw_all := lw_in wsX70 [560] (by decide +kernel) (by decide +kernel)
/-! RelicHouse$Times -/
def RX8 : String := "RelicHouse$Times"
def TX8 : u_T := fun k => match k with
  | 0 => ("RelicHouse$Two", "a", "LRelicHouse$Term;", true)
  | _ => ("RelicHouse$Two", "b", "LRelicHouse$Term;", true)
def tyX8 : Nat → FieldType := fun k => match k with
  | 0 => .object "RelicHouse$Term"
  | _ => .object "RelicHouse$Term"
abbrev wsX80 : List Cond := u_ws RX8 TX8 2
theorem nmX8 : ∀ a, a < 2 → ∀ b, b < 2 → a ≠ b → (TX8 a).2.1 ≠ (TX8 b).2.1 := by decide +kernel
theorem tyX8_ok : ∀ k, k < 2 → parseFieldDescriptor (TX8 k).2.2.1 = some (tyX8 k) := by decide +kernel
abbrev cX8_init : ByteArray := prog_27_method_1_code
def yX8_init : MethodName := ⟨RX8, "<init>", "(LRelicHouse$Term;LRelicHouse$Term;)V"⟩
abbrev cX8_with : ByteArray := prog_27_method_2_code
def yX8_with : MethodName := ⟨RX8, "with", "(II)I"⟩
theorem q126 : (Jvm.Cond.initialized "RelicHouse$Times") ∈ lw_all := lw_g (lw_at lw_m1 27 rfl) rfl
theorem q578 : (Jvm.Cond.instantiable "RelicHouse$Times" (2 : Nat)) ∈ lw_all := lw_g (lw_at lw_m2 239 rfl) rfl
theorem q590 : (Jvm.Cond.instanceMethod ({ cls := "RelicHouse$Times", name := "<init>", desc := "(LRelicHouse$Term;LRelicHouse$Term;)V" } : Jvm.MethodName)) ∈ lw_all := lw_g (lw_at lw_m3 11 rfl) rfl
theorem q591 : (Jvm.Cond.code ({ cls := "RelicHouse$Times", name := "<init>", desc := "(LRelicHouse$Term;LRelicHouse$Term;)V" } : Jvm.MethodName) prog_27_method_1_code (3 : Nat) (Option.none : Option Jvm.ClassFile.FieldType)) ∈ lw_all := lw_g (lw_at lw_m3 12 rfl) rfl
theorem q592 : (Jvm.Cond.methodLink "RelicHouse$Times" (1 : Nat) ({ cls := "RelicHouse$Two", name := "<init>", desc := "(LRelicHouse$Term;LRelicHouse$Term;)V" } : Jvm.MethodName)) ∈ lw_all := lw_g (lw_at lw_m3 13 rfl) rfl
theorem q593 : (Jvm.Cond.laysFinal "RelicHouse$Times" "RelicHouse$Two" "a" "LRelicHouse$Term;") ∈ lw_all := lw_g (lw_at lw_m3 14 rfl) rfl
theorem q594 : (Jvm.Cond.laysFinal "RelicHouse$Times" "RelicHouse$Two" "b" "LRelicHouse$Term;") ∈ lw_all := lw_g (lw_at lw_m3 15 rfl) rfl
theorem q595 : (Jvm.Cond.superclass "RelicHouse$Times" "RelicHouse$Two") ∈ lw_all := lw_g (lw_at lw_m3 16 rfl) rfl
theorem q890 : (Jvm.Cond.selects "RelicHouse$Times" ({ cls := "RelicHouse$Two", name := "with", desc := "(II)I" } : Jvm.MethodName) ({ cls := "RelicHouse$Times", name := "with", desc := "(II)I" } : Jvm.MethodName)) ∈ lw_all := lw_g (lw_at lw_m4 71 rfl) rfl
theorem q891 : (Jvm.Cond.instanceMethod ({ cls := "RelicHouse$Times", name := "with", desc := "(II)I" } : Jvm.MethodName)) ∈ lw_all := lw_g (lw_at lw_m4 72 rfl) rfl
theorem q892 : (Jvm.Cond.code ({ cls := "RelicHouse$Times", name := "with", desc := "(II)I" } : Jvm.MethodName) prog_27_method_2_code (3 : Nat) (Option.some Jvm.ClassFile.FieldType.int)) ∈ lw_all := lw_g (lw_at lw_m4 73 rfl) rfl
theorem q900 : (Jvm.Cond.selects "RelicHouse$Times" ({ cls := "RelicHouse$Term", name := "of", desc := "([I)I" } : Jvm.MethodName) ({ cls := "RelicHouse$Two", name := "of", desc := "([I)I" } : Jvm.MethodName)) ∈ lw_all := lw_g (lw_at lw_m4 81 rfl) rfl
theorem q1245 : (Jvm.Cond.selects "RelicHouse$Times" ({ cls := "java/lang/Object", name := "getClass", desc := "()Ljava/lang/Class;" } : Jvm.MethodName) ({ cls := "java/lang/Object", name := "getClass", desc := "()Ljava/lang/Class;" } : Jvm.MethodName)) ∈ lw_all := lw_g (lw_at lw_m5 186 rfl) rfl
theorem q2616 : (Jvm.Cond.castable "RelicHouse$Times" "java/lang/Object") ∈ lw_tbl := lw_at lw_m11 117 rfl
theorem in_X8 : ∀ w ∈ wsX80, w ∈ lw_all := lw_in wsX80 [593, 594] (by decide +kernel) (by decide +kernel)
/-! RelicHouse$Plain -/
def RX9 : String := "RelicHouse$Plain"
def TX9 : u_T := fun k => match k with
  | _ => ("RelicHouse$Plain", "n", "I", true)
def tyX9 : Nat → FieldType := fun k => match k with
  | _ => .int
abbrev wsX90 : List Cond := u_ws RX9 TX9 1
theorem nmX9 : ∀ a, a < 1 → ∀ b, b < 1 → a ≠ b → (TX9 a).2.1 ≠ (TX9 b).2.1 := by decide +kernel
theorem tyX9_ok : ∀ k, k < 1 → parseFieldDescriptor (TX9 k).2.2.1 = some (tyX9 k) := by decide +kernel
abbrev cX9_init : ByteArray := prog_20_method_1_code
def yX9_init : MethodName := ⟨RX9, "<init>", "(I)V"⟩
abbrev cX9_of : ByteArray := prog_20_method_2_code
def yX9_of : MethodName := ⟨RX9, "of", "([I)I"⟩
theorem q127 : (Jvm.Cond.initialized "RelicHouse$Plain") ∈ lw_all := lw_g (lw_at lw_m1 28 rfl) rfl
theorem q580 : (Jvm.Cond.instantiable "RelicHouse$Plain" (1 : Nat)) ∈ lw_all := lw_g (lw_at lw_m3 1 rfl) rfl
theorem q582 : (Jvm.Cond.instanceMethod ({ cls := "RelicHouse$Plain", name := "<init>", desc := "(I)V" } : Jvm.MethodName)) ∈ lw_all := lw_g (lw_at lw_m3 3 rfl) rfl
theorem q583 : (Jvm.Cond.code ({ cls := "RelicHouse$Plain", name := "<init>", desc := "(I)V" } : Jvm.MethodName) prog_20_method_1_code (2 : Nat) (Option.none : Option Jvm.ClassFile.FieldType)) ∈ lw_all := lw_g (lw_at lw_m3 4 rfl) rfl
theorem q584 : (Jvm.Cond.methodLinkNest "RelicHouse$Plain" (1 : Nat) ({ cls := "RelicHouse$Term", name := "<init>", desc := "()V" } : Jvm.MethodName) "RelicHouse") ∈ lw_tbl := lw_at lw_m3 5 rfl
theorem q585 : (Jvm.Cond.fieldLink "RelicHouse$Plain" (7 : Nat) "RelicHouse$Plain" "n" "I") ∈ lw_all := lw_g (lw_at lw_m3 6 rfl) rfl
theorem q586 : (Jvm.Cond.laysFinal "RelicHouse$Plain" "RelicHouse$Plain" "n" "I") ∈ lw_all := lw_g (lw_at lw_m3 7 rfl) rfl
theorem q587 : (Jvm.Cond.soleField "RelicHouse$Plain" "n") ∈ lw_all := lw_g (lw_at lw_m3 8 rfl) rfl
theorem q588 : (Jvm.Cond.superclass "RelicHouse$Plain" "RelicHouse$Term") ∈ lw_all := lw_g (lw_at lw_m3 9 rfl) rfl
theorem q865 : (Jvm.Cond.instanceMethod ({ cls := "RelicHouse$Plain", name := "of", desc := "([I)I" } : Jvm.MethodName)) ∈ lw_all := lw_g (lw_at lw_m4 46 rfl) rfl
theorem q866 : (Jvm.Cond.code ({ cls := "RelicHouse$Plain", name := "of", desc := "([I)I" } : Jvm.MethodName) prog_20_method_2_code (2 : Nat) (Option.some Jvm.ClassFile.FieldType.int)) ∈ lw_all := lw_g (lw_at lw_m4 47 rfl) rfl
theorem q898 : (Jvm.Cond.selects "RelicHouse$Plain" ({ cls := "RelicHouse$Term", name := "of", desc := "([I)I" } : Jvm.MethodName) ({ cls := "RelicHouse$Plain", name := "of", desc := "([I)I" } : Jvm.MethodName)) ∈ lw_all := lw_g (lw_at lw_m4 79 rfl) rfl
theorem q1241 : (Jvm.Cond.selects "RelicHouse$Plain" ({ cls := "java/lang/Object", name := "getClass", desc := "()Ljava/lang/Class;" } : Jvm.MethodName) ({ cls := "java/lang/Object", name := "getClass", desc := "()Ljava/lang/Class;" } : Jvm.MethodName)) ∈ lw_all := lw_g (lw_at lw_m5 182 rfl) rfl
theorem q2617 : (Jvm.Cond.castable "RelicHouse$Plain" "java/lang/Object") ∈ lw_tbl := lw_at lw_m11 118 rfl
theorem in_X9 : ∀ w ∈ wsX90, w ∈ lw_all := lw_in wsX90 [586] (by decide +kernel) (by decide +kernel)
/-! RelicHouse$House -/
def RX10 : String := "RelicHouse$House"
def TX10 : u_T := fun k => match k with
  | 0 => ("RelicHouse$House", "days", "[I", true)
  | 1 => ("RelicHouse$House", "lapses", "[I", true)
  | 2 => ("RelicHouse$House", "cure", "[I", true)
  | 3 => ("RelicHouse$House", "living", "I", false)
  | 4 => ("RelicHouse$House", "used", "I", false)
  | 5 => ("RelicHouse$House", "day", "I", false)
  | 6 => ("RelicHouse$House", "steps", "I", false)
  | 7 => ("RelicHouse$House", "done", "I", false)
  | 8 => ("RelicHouse$House", "refused", "I", false)
  | _ => ("RelicHouse$House", "this$0", "LRelicHouse;", true)
def tyX10 : Nat → FieldType := fun k => match k with
  | 0 => .array .int
  | 1 => .array .int
  | 2 => .array .int
  | 3 => .int
  | 4 => .int
  | 5 => .int
  | 6 => .int
  | 7 => .int
  | 8 => .int
  | _ => .object "RelicHouse"
abbrev wsX100 : List Cond := u_ws RX10 TX10 10
theorem nmX10 : ∀ a, a < 10 → ∀ b, b < 10 → a ≠ b → (TX10 a).2.1 ≠ (TX10 b).2.1 := by decide +kernel
theorem tyX10_ok : ∀ k, k < 10 → parseFieldDescriptor (TX10 k).2.2.1 = some (tyX10 k) := by decide +kernel
abbrev cX10_init : ByteArray := prog_10_method_1_code
def yX10_init : MethodName := ⟨RX10, "<init>", "(LRelicHouse;)V"⟩
abbrev cX10_begins : ByteArray := prog_10_method_2_code
def yX10_begins : MethodName := ⟨RX10, "begins", "()LRelicHouse$House;"⟩
abbrev cX10_becomes : ByteArray := prog_10_method_3_code
def yX10_becomes : MethodName := ⟨RX10, "becomes", "(LRelicHouse$House;)LRelicHouse$House;"⟩
abbrev cX10_canLapse : ByteArray := prog_10_method_11_code
def yX10_canLapse : MethodName := ⟨RX10, "canLapse", "(I)Z"⟩
abbrev cX10_kept : ByteArray := prog_10_method_4_code
def yX10_kept : MethodName := ⟨RX10, "kept", "()I"⟩
abbrev cX10_canCure : ByteArray := prog_10_method_10_code
def yX10_canCure : MethodName := ⟨RX10, "canCure", "(II)Z"⟩
abbrev cX10_isAble : ByteArray := prog_10_method_9_code
def yX10_isAble : MethodName := ⟨RX10, "isAble", "(II)Z"⟩
abbrev cX10_powerOf : ByteArray := prog_10_method_7_code
def yX10_powerOf : MethodName := ⟨RX10, "powerOf", "(I)I"⟩
abbrev cX10_othersOf : ByteArray := prog_10_method_6_code
def yX10_othersOf : MethodName := ⟨RX10, "othersOf", "(I)I"⟩
abbrev cX10_backs : ByteArray := prog_10_method_13_code
def yX10_backs : MethodName := ⟨RX10, "backs", "(I)Z"⟩
abbrev cX10_cures : ByteArray := prog_10_method_15_code
def yX10_cures : MethodName := ⟨RX10, "cures", "(II)Z"⟩
abbrev cX10_dies : ByteArray := prog_10_method_16_code
def yX10_dies : MethodName := ⟨RX10, "dies", "(I)Z"⟩
abbrev cX10_gives : ByteArray := prog_10_method_12_code
def yX10_gives : MethodName := ⟨RX10, "gives", "(I)Z"⟩
abbrev cX10_lapses : ByteArray := prog_10_method_14_code
def yX10_lapses : MethodName := ⟨RX10, "lapses", "(I)Z"⟩
abbrev cX10_day : ByteArray := prog_10_method_17_code
def yX10_day : MethodName := ⟨RX10, "day", "()Z"⟩
abbrev cX10_passes : ByteArray := prog_10_method_18_code
def yX10_passes : MethodName := ⟨RX10, "passes", "()V"⟩
abbrev cX10_cured : ByteArray := prog_10_method_5_code
def yX10_cured : MethodName := ⟨RX10, "cured", "()I"⟩
abbrev cX10_powerAll : ByteArray := prog_10_method_8_code
def yX10_powerAll : MethodName := ⟨RX10, "powerAll", "()I"⟩
theorem q128 : (Jvm.Cond.initialized "RelicHouse$House") ∈ lw_all := lw_g (lw_at lw_m1 29 rfl) rfl
theorem q512 : (Jvm.Cond.fieldLinkNest "RelicHouse$House" (81 : Nat) "RelicHouse$Told" "tempted" "[I" "RelicHouse") ∈ lw_tbl := lw_at lw_m2 173 rfl
theorem q525 : (Jvm.Cond.fieldLinkNest "RelicHouse$House" (29 : Nat) "RelicHouse$Told" "sisters" "I" "RelicHouse") ∈ lw_tbl := lw_at lw_m2 186 rfl
theorem q604 : (Jvm.Cond.instantiable "RelicHouse$House" (10 : Nat)) ∈ lw_all := lw_g (lw_at lw_m3 25 rfl) rfl
theorem q606 : (Jvm.Cond.instanceMethod ({ cls := "RelicHouse$House", name := "<init>", desc := "(LRelicHouse;)V" } : Jvm.MethodName)) ∈ lw_all := lw_g (lw_at lw_m3 27 rfl) rfl
theorem q607 : (Jvm.Cond.code ({ cls := "RelicHouse$House", name := "<init>", desc := "(LRelicHouse;)V" } : Jvm.MethodName) prog_10_method_1_code (2 : Nat) (Option.none : Option Jvm.ClassFile.FieldType)) ∈ lw_all := lw_g (lw_at lw_m3 28 rfl) rfl
theorem q608 : (Jvm.Cond.methodLink "RelicHouse$House" (9 : Nat) ({ cls := "java/lang/Object", name := "<init>", desc := "()V" } : Jvm.MethodName)) ∈ lw_all := lw_g (lw_at lw_m3 29 rfl) rfl
theorem q609 : (Jvm.Cond.fieldLink "RelicHouse$House" (15 : Nat) "RelicHouse$House" "days" "[I") ∈ lw_all := lw_g (lw_at lw_m3 30 rfl) rfl
theorem q611 : (Jvm.Cond.fieldLink "RelicHouse$House" (19 : Nat) "RelicHouse$House" "lapses" "[I") ∈ lw_all := lw_g (lw_at lw_m3 32 rfl) rfl
theorem q613 : (Jvm.Cond.fieldLink "RelicHouse$House" (22 : Nat) "RelicHouse$House" "cure" "[I") ∈ lw_all := lw_g (lw_at lw_m3 34 rfl) rfl
theorem q615 : (Jvm.Cond.fieldLink "RelicHouse$House" (35 : Nat) "RelicHouse$House" "living" "I") ∈ lw_all := lw_g (lw_at lw_m3 36 rfl) rfl
theorem q617 : (Jvm.Cond.fieldLink "RelicHouse$House" (38 : Nat) "RelicHouse$House" "used" "I") ∈ lw_all := lw_g (lw_at lw_m3 38 rfl) rfl
theorem q619 : (Jvm.Cond.fieldLink "RelicHouse$House" (41 : Nat) "RelicHouse$House" "day" "I") ∈ lw_all := lw_g (lw_at lw_m3 40 rfl) rfl
theorem q628 : (Jvm.Cond.fieldLink "RelicHouse$House" (3 : Nat) "RelicHouse$House" "this$0" "LRelicHouse;") ∈ lw_all := lw_g (lw_at lw_m3 49 rfl) rfl
theorem q629 : (Jvm.Cond.laysFinal "RelicHouse$House" "RelicHouse$House" "days" "[I") ∈ lw_all := lw_g (lw_at lw_m3 50 rfl) rfl
theorem q630 : (Jvm.Cond.soleField "RelicHouse$House" "days") ∈ lw_all := lw_g (lw_at lw_m3 51 rfl) rfl
theorem q631 : (Jvm.Cond.laysFinal "RelicHouse$House" "RelicHouse$House" "lapses" "[I") ∈ lw_all := lw_g (lw_at lw_m3 52 rfl) rfl
theorem q632 : (Jvm.Cond.soleField "RelicHouse$House" "lapses") ∈ lw_all := lw_g (lw_at lw_m3 53 rfl) rfl
theorem q633 : (Jvm.Cond.laysFinal "RelicHouse$House" "RelicHouse$House" "cure" "[I") ∈ lw_all := lw_g (lw_at lw_m3 54 rfl) rfl
theorem q634 : (Jvm.Cond.soleField "RelicHouse$House" "cure") ∈ lw_all := lw_g (lw_at lw_m3 55 rfl) rfl
theorem q635 : (Jvm.Cond.lays "RelicHouse$House" "RelicHouse$House" "living" "I") ∈ lw_all := lw_g (lw_at lw_m3 56 rfl) rfl
theorem q636 : (Jvm.Cond.soleField "RelicHouse$House" "living") ∈ lw_all := lw_g (lw_at lw_m3 57 rfl) rfl
theorem q637 : (Jvm.Cond.lays "RelicHouse$House" "RelicHouse$House" "used" "I") ∈ lw_all := lw_g (lw_at lw_m3 58 rfl) rfl
theorem q638 : (Jvm.Cond.soleField "RelicHouse$House" "used") ∈ lw_all := lw_g (lw_at lw_m3 59 rfl) rfl
theorem q639 : (Jvm.Cond.lays "RelicHouse$House" "RelicHouse$House" "day" "I") ∈ lw_all := lw_g (lw_at lw_m3 60 rfl) rfl
theorem q640 : (Jvm.Cond.soleField "RelicHouse$House" "day") ∈ lw_all := lw_g (lw_at lw_m3 61 rfl) rfl
theorem q641 : (Jvm.Cond.lays "RelicHouse$House" "RelicHouse$House" "steps" "I") ∈ lw_all := lw_g (lw_at lw_m3 62 rfl) rfl
theorem q642 : (Jvm.Cond.soleField "RelicHouse$House" "steps") ∈ lw_all := lw_g (lw_at lw_m3 63 rfl) rfl
theorem q643 : (Jvm.Cond.lays "RelicHouse$House" "RelicHouse$House" "done" "I") ∈ lw_all := lw_g (lw_at lw_m3 64 rfl) rfl
theorem q644 : (Jvm.Cond.soleField "RelicHouse$House" "done") ∈ lw_all := lw_g (lw_at lw_m3 65 rfl) rfl
theorem q645 : (Jvm.Cond.lays "RelicHouse$House" "RelicHouse$House" "refused" "I") ∈ lw_all := lw_g (lw_at lw_m3 66 rfl) rfl
theorem q646 : (Jvm.Cond.soleField "RelicHouse$House" "refused") ∈ lw_all := lw_g (lw_at lw_m3 67 rfl) rfl
theorem q647 : (Jvm.Cond.laysFinal "RelicHouse$House" "RelicHouse$House" "this$0" "LRelicHouse;") ∈ lw_all := lw_g (lw_at lw_m3 68 rfl) rfl
theorem q648 : (Jvm.Cond.soleField "RelicHouse$House" "this$0") ∈ lw_all := lw_g (lw_at lw_m3 69 rfl) rfl
theorem q649 : (Jvm.Cond.superclass "RelicHouse$House" "java/lang/Object") ∈ lw_all := lw_g (lw_at lw_m3 70 rfl) rfl
theorem q656 : (Jvm.Cond.instanceMethod ({ cls := "RelicHouse$House", name := "begins", desc := "()LRelicHouse$House;" } : Jvm.MethodName)) ∈ lw_all := lw_g (lw_at lw_m3 77 rfl) rfl
theorem q657 : (Jvm.Cond.selects "RelicHouse$House" ({ cls := "RelicHouse$House", name := "begins", desc := "()LRelicHouse$House;" } : Jvm.MethodName) ({ cls := "RelicHouse$House", name := "begins", desc := "()LRelicHouse$House;" } : Jvm.MethodName)) ∈ lw_all := lw_g (lw_at lw_m3 78 rfl) rfl
theorem q658 : (Jvm.Cond.code ({ cls := "RelicHouse$House", name := "begins", desc := "()LRelicHouse$House;" } : Jvm.MethodName) prog_10_method_2_code (2 : Nat) (Option.some (Jvm.ClassFile.FieldType.object "RelicHouse$House"))) ∈ lw_all := lw_g (lw_at lw_m3 79 rfl) rfl
theorem q660 : (Jvm.Cond.fieldLinkNest "RelicHouse$House" (25 : Nat) "RelicHouse" "told" "LRelicHouse$Told;" "RelicHouse") ∈ lw_tbl := lw_at lw_m3 81 rfl
theorem q753 : (Jvm.Cond.instanceMethod ({ cls := "RelicHouse$House", name := "becomes", desc := "(LRelicHouse$House;)LRelicHouse$House;" } : Jvm.MethodName)) ∈ lw_all := lw_g (lw_at lw_m3 174 rfl) rfl
theorem q754 : (Jvm.Cond.selects "RelicHouse$House" ({ cls := "RelicHouse$House", name := "becomes", desc := "(LRelicHouse$House;)LRelicHouse$House;" } : Jvm.MethodName) ({ cls := "RelicHouse$House", name := "becomes", desc := "(LRelicHouse$House;)LRelicHouse$House;" } : Jvm.MethodName)) ∈ lw_all := lw_g (lw_at lw_m3 175 rfl) rfl
theorem q755 : (Jvm.Cond.code ({ cls := "RelicHouse$House", name := "becomes", desc := "(LRelicHouse$House;)LRelicHouse$House;" } : Jvm.MethodName) prog_10_method_3_code (2 : Nat) (Option.some (Jvm.ClassFile.FieldType.object "RelicHouse$House"))) ∈ lw_all := lw_g (lw_at lw_m3 176 rfl) rfl
theorem q756 : (Jvm.Cond.methodLink "RelicHouse$House" (44 : Nat) ({ cls := "java/lang/System", name := "arraycopy", desc := "(Ljava/lang/Object;ILjava/lang/Object;II)V" } : Jvm.MethodName)) ∈ lw_all := lw_g (lw_at lw_m3 177 rfl) rfl
theorem q796 : (Jvm.Cond.instanceMethod ({ cls := "RelicHouse$House", name := "canLapse", desc := "(I)Z" } : Jvm.MethodName)) ∈ lw_all := lw_g (lw_at lw_m3 217 rfl) rfl
theorem q797 : (Jvm.Cond.selects "RelicHouse$House" ({ cls := "RelicHouse$House", name := "canLapse", desc := "(I)Z" } : Jvm.MethodName) ({ cls := "RelicHouse$House", name := "canLapse", desc := "(I)Z" } : Jvm.MethodName)) ∈ lw_all := lw_g (lw_at lw_m3 218 rfl) rfl
theorem q798 : (Jvm.Cond.code ({ cls := "RelicHouse$House", name := "canLapse", desc := "(I)Z" } : Jvm.MethodName) prog_10_method_11_code (2 : Nat) (Option.some Jvm.ClassFile.FieldType.boolean)) ∈ lw_all := lw_g (lw_at lw_m3 219 rfl) rfl
theorem q799 : (Jvm.Cond.methodLinkNest "RelicHouse$House" (107 : Nat) ({ cls := "RelicHouse", name := "has", desc := "(II)Z" } : Jvm.MethodName) "RelicHouse") ∈ lw_tbl := lw_at lw_m3 220 rfl
theorem q800 : (Jvm.Cond.methodLink "RelicHouse$House" (57 : Nat) ({ cls := "RelicHouse$House", name := "kept", desc := "()I" } : Jvm.MethodName)) ∈ lw_all := lw_g (lw_at lw_m3 221 rfl) rfl
theorem q801 : (Jvm.Cond.instanceMethod ({ cls := "RelicHouse$House", name := "kept", desc := "()I" } : Jvm.MethodName)) ∈ lw_all := lw_g (lw_at lw_m3 222 rfl) rfl
theorem q802 : (Jvm.Cond.selects "RelicHouse$House" ({ cls := "RelicHouse$House", name := "kept", desc := "()I" } : Jvm.MethodName) ({ cls := "RelicHouse$House", name := "kept", desc := "()I" } : Jvm.MethodName)) ∈ lw_all := lw_g (lw_at lw_m3 223 rfl) rfl
theorem q803 : (Jvm.Cond.code ({ cls := "RelicHouse$House", name := "kept", desc := "()I" } : Jvm.MethodName) prog_10_method_4_code (3 : Nat) (Option.some Jvm.ClassFile.FieldType.int)) ∈ lw_all := lw_g (lw_at lw_m3 224 rfl) rfl
theorem q804 : (Jvm.Cond.methodLinkNest "RelicHouse$House" (50 : Nat) ({ cls := "RelicHouse", name := "relics", desc := "()I" } : Jvm.MethodName) "RelicHouse") ∈ lw_tbl := lw_at lw_m3 225 rfl
theorem q805 : (Jvm.Cond.methodLink "RelicHouse$House" (69 : Nat) ({ cls := "RelicHouse$Told", name := "of", desc := "(I)I" } : Jvm.MethodName)) ∈ lw_all := lw_g (lw_at lw_m3 226 rfl) rfl
theorem q825 : (Jvm.Cond.instanceMethod ({ cls := "RelicHouse$House", name := "canCure", desc := "(II)Z" } : Jvm.MethodName)) ∈ lw_all := lw_g (lw_at lw_m4 6 rfl) rfl
theorem q826 : (Jvm.Cond.selects "RelicHouse$House" ({ cls := "RelicHouse$House", name := "canCure", desc := "(II)Z" } : Jvm.MethodName) ({ cls := "RelicHouse$House", name := "canCure", desc := "(II)Z" } : Jvm.MethodName)) ∈ lw_all := lw_g (lw_at lw_m4 7 rfl) rfl
theorem q827 : (Jvm.Cond.code ({ cls := "RelicHouse$House", name := "canCure", desc := "(II)Z" } : Jvm.MethodName) prog_10_method_10_code (3 : Nat) (Option.some Jvm.ClassFile.FieldType.boolean)) ∈ lw_all := lw_g (lw_at lw_m4 8 rfl) rfl
theorem q828 : (Jvm.Cond.methodLink "RelicHouse$House" (111 : Nat) ({ cls := "RelicHouse$House", name := "isAble", desc := "(II)Z" } : Jvm.MethodName)) ∈ lw_all := lw_g (lw_at lw_m4 9 rfl) rfl
theorem q829 : (Jvm.Cond.instanceMethod ({ cls := "RelicHouse$House", name := "isAble", desc := "(II)Z" } : Jvm.MethodName)) ∈ lw_all := lw_g (lw_at lw_m4 10 rfl) rfl
theorem q830 : (Jvm.Cond.selects "RelicHouse$House" ({ cls := "RelicHouse$House", name := "isAble", desc := "(II)Z" } : Jvm.MethodName) ({ cls := "RelicHouse$House", name := "isAble", desc := "(II)Z" } : Jvm.MethodName)) ∈ lw_all := lw_g (lw_at lw_m4 11 rfl) rfl
theorem q831 : (Jvm.Cond.code ({ cls := "RelicHouse$House", name := "isAble", desc := "(II)Z" } : Jvm.MethodName) prog_10_method_9_code (3 : Nat) (Option.some Jvm.ClassFile.FieldType.boolean)) ∈ lw_all := lw_g (lw_at lw_m4 12 rfl) rfl
theorem q832 : (Jvm.Cond.methodLinkNest "RelicHouse$House" (60 : Nat) ({ cls := "RelicHouse", name := "relicOf", desc := "(I)LRelicHouse$Relic;" } : Jvm.MethodName) "RelicHouse") ∈ lw_tbl := lw_at lw_m4 13 rfl
theorem q833 : (Jvm.Cond.methodLinkNest "RelicHouse$House" (97 : Nat) ({ cls := "RelicHouse", name := "pilgrimOf", desc := "(I)LRelicHouse$Pilgrim;" } : Jvm.MethodName) "RelicHouse") ∈ lw_tbl := lw_at lw_m4 14 rfl
theorem q838 : (Jvm.Cond.methodLink "RelicHouse$House" (94 : Nat) ({ cls := "RelicHouse$House", name := "powerOf", desc := "(I)I" } : Jvm.MethodName)) ∈ lw_all := lw_g (lw_at lw_m4 19 rfl) rfl
theorem q839 : (Jvm.Cond.instanceMethod ({ cls := "RelicHouse$House", name := "powerOf", desc := "(I)I" } : Jvm.MethodName)) ∈ lw_all := lw_g (lw_at lw_m4 20 rfl) rfl
theorem q840 : (Jvm.Cond.selects "RelicHouse$House" ({ cls := "RelicHouse$House", name := "powerOf", desc := "(I)I" } : Jvm.MethodName) ({ cls := "RelicHouse$House", name := "powerOf", desc := "(I)I" } : Jvm.MethodName)) ∈ lw_all := lw_g (lw_at lw_m4 21 rfl) rfl
theorem q841 : (Jvm.Cond.code ({ cls := "RelicHouse$House", name := "powerOf", desc := "(I)I" } : Jvm.MethodName) prog_10_method_7_code (3 : Nat) (Option.some Jvm.ClassFile.FieldType.int)) ∈ lw_all := lw_g (lw_at lw_m4 22 rfl) rfl
theorem q842 : (Jvm.Cond.methodLink "RelicHouse$House" (87 : Nat) ({ cls := "RelicHouse$House", name := "othersOf", desc := "(I)I" } : Jvm.MethodName)) ∈ lw_all := lw_g (lw_at lw_m4 23 rfl) rfl
theorem q843 : (Jvm.Cond.instanceMethod ({ cls := "RelicHouse$House", name := "othersOf", desc := "(I)I" } : Jvm.MethodName)) ∈ lw_all := lw_g (lw_at lw_m4 24 rfl) rfl
theorem q844 : (Jvm.Cond.selects "RelicHouse$House" ({ cls := "RelicHouse$House", name := "othersOf", desc := "(I)I" } : Jvm.MethodName) ({ cls := "RelicHouse$House", name := "othersOf", desc := "(I)I" } : Jvm.MethodName)) ∈ lw_all := lw_g (lw_at lw_m4 25 rfl) rfl
theorem q845 : (Jvm.Cond.code ({ cls := "RelicHouse$House", name := "othersOf", desc := "(I)I" } : Jvm.MethodName) prog_10_method_6_code (2 : Nat) (Option.some Jvm.ClassFile.FieldType.int)) ∈ lw_all := lw_g (lw_at lw_m4 26 rfl) rfl
theorem q846 : (Jvm.Cond.methodLink "RelicHouse$House" (73 : Nat) ({ cls := "java/lang/Integer", name := "bitCount", desc := "(I)I" } : Jvm.MethodName)) ∈ lw_all := lw_g (lw_at lw_m4 27 rfl) rfl
theorem q852 : (Jvm.Cond.methodLinkNest "RelicHouse$House" (90 : Nat) ({ cls := "RelicHouse", name := "powerBy", desc := "(IIIIIIII)I" } : Jvm.MethodName) "RelicHouse") ∈ lw_tbl := lw_at lw_m4 33 rfl
theorem q1183 : (Jvm.Cond.fieldLinkNest "RelicHouse$House" (64 : Nat) "RelicHouse$Relic" "sister" "I" "RelicHouse") ∈ lw_tbl := lw_at lw_m5 124 rfl
theorem q1186 : (Jvm.Cond.fieldLinkNest "RelicHouse$House" (84 : Nat) "RelicHouse$Relic" "ill" "I" "RelicHouse") ∈ lw_tbl := lw_at lw_m5 127 rfl
theorem q1189 : (Jvm.Cond.fieldLinkNest "RelicHouse$House" (78 : Nat) "RelicHouse$Relic" "worth" "I" "RelicHouse") ∈ lw_tbl := lw_at lw_m5 130 rfl
theorem q1231 : (Jvm.Cond.selects "RelicHouse$House" ({ cls := "java/lang/Object", name := "getClass", desc := "()Ljava/lang/Class;" } : Jvm.MethodName) ({ cls := "java/lang/Object", name := "getClass", desc := "()Ljava/lang/Class;" } : Jvm.MethodName)) ∈ lw_all := lw_g (lw_at lw_m5 172 rfl) rfl
theorem q1270 : (Jvm.Cond.fieldLinkNest "RelicHouse$House" (101 : Nat) "RelicHouse$Pilgrim" "ill" "I" "RelicHouse") ∈ lw_tbl := lw_at lw_m5 211 rfl
theorem q1273 : (Jvm.Cond.fieldLinkNest "RelicHouse$House" (104 : Nat) "RelicHouse$Pilgrim" "need" "I" "RelicHouse") ∈ lw_tbl := lw_at lw_m5 214 rfl
theorem q1599 : (Jvm.Cond.instanceMethod ({ cls := "RelicHouse$House", name := "backs", desc := "(I)Z" } : Jvm.MethodName)) ∈ lw_all := lw_g (lw_at lw_m7 60 rfl) rfl
theorem q1600 : (Jvm.Cond.selects "RelicHouse$House" ({ cls := "RelicHouse$House", name := "backs", desc := "(I)Z" } : Jvm.MethodName) ({ cls := "RelicHouse$House", name := "backs", desc := "(I)Z" } : Jvm.MethodName)) ∈ lw_all := lw_g (lw_at lw_m7 61 rfl) rfl
theorem q1601 : (Jvm.Cond.code ({ cls := "RelicHouse$House", name := "backs", desc := "(I)Z" } : Jvm.MethodName) prog_10_method_13_code (2 : Nat) (Option.some Jvm.ClassFile.FieldType.boolean)) ∈ lw_all := lw_g (lw_at lw_m7 62 rfl) rfl
theorem q1606 : (Jvm.Cond.instanceMethod ({ cls := "RelicHouse$House", name := "cures", desc := "(II)Z" } : Jvm.MethodName)) ∈ lw_all := lw_g (lw_at lw_m7 67 rfl) rfl
theorem q1607 : (Jvm.Cond.selects "RelicHouse$House" ({ cls := "RelicHouse$House", name := "cures", desc := "(II)Z" } : Jvm.MethodName) ({ cls := "RelicHouse$House", name := "cures", desc := "(II)Z" } : Jvm.MethodName)) ∈ lw_all := lw_g (lw_at lw_m7 68 rfl) rfl
theorem q1608 : (Jvm.Cond.code ({ cls := "RelicHouse$House", name := "cures", desc := "(II)Z" } : Jvm.MethodName) prog_10_method_15_code (3 : Nat) (Option.some Jvm.ClassFile.FieldType.boolean)) ∈ lw_all := lw_g (lw_at lw_m7 69 rfl) rfl
theorem q1609 : (Jvm.Cond.methodLink "RelicHouse$House" (118 : Nat) ({ cls := "RelicHouse$House", name := "canCure", desc := "(II)Z" } : Jvm.MethodName)) ∈ lw_all := lw_g (lw_at lw_m7 70 rfl) rfl
theorem q1614 : (Jvm.Cond.instanceMethod ({ cls := "RelicHouse$House", name := "dies", desc := "(I)Z" } : Jvm.MethodName)) ∈ lw_all := lw_g (lw_at lw_m7 75 rfl) rfl
theorem q1615 : (Jvm.Cond.selects "RelicHouse$House" ({ cls := "RelicHouse$House", name := "dies", desc := "(I)Z" } : Jvm.MethodName) ({ cls := "RelicHouse$House", name := "dies", desc := "(I)Z" } : Jvm.MethodName)) ∈ lw_all := lw_g (lw_at lw_m7 76 rfl) rfl
theorem q1616 : (Jvm.Cond.code ({ cls := "RelicHouse$House", name := "dies", desc := "(I)Z" } : Jvm.MethodName) prog_10_method_16_code (3 : Nat) (Option.some Jvm.ClassFile.FieldType.boolean)) ∈ lw_all := lw_g (lw_at lw_m7 77 rfl) rfl
theorem q1621 : (Jvm.Cond.instanceMethod ({ cls := "RelicHouse$House", name := "gives", desc := "(I)Z" } : Jvm.MethodName)) ∈ lw_all := lw_g (lw_at lw_m7 82 rfl) rfl
theorem q1622 : (Jvm.Cond.selects "RelicHouse$House" ({ cls := "RelicHouse$House", name := "gives", desc := "(I)Z" } : Jvm.MethodName) ({ cls := "RelicHouse$House", name := "gives", desc := "(I)Z" } : Jvm.MethodName)) ∈ lw_all := lw_g (lw_at lw_m7 83 rfl) rfl
theorem q1623 : (Jvm.Cond.code ({ cls := "RelicHouse$House", name := "gives", desc := "(I)Z" } : Jvm.MethodName) prog_10_method_12_code (2 : Nat) (Option.some Jvm.ClassFile.FieldType.boolean)) ∈ lw_all := lw_g (lw_at lw_m7 84 rfl) rfl
theorem q1628 : (Jvm.Cond.instanceMethod ({ cls := "RelicHouse$House", name := "lapses", desc := "(I)Z" } : Jvm.MethodName)) ∈ lw_all := lw_g (lw_at lw_m7 89 rfl) rfl
theorem q1629 : (Jvm.Cond.selects "RelicHouse$House" ({ cls := "RelicHouse$House", name := "lapses", desc := "(I)Z" } : Jvm.MethodName) ({ cls := "RelicHouse$House", name := "lapses", desc := "(I)Z" } : Jvm.MethodName)) ∈ lw_all := lw_g (lw_at lw_m7 90 rfl) rfl
theorem q1630 : (Jvm.Cond.code ({ cls := "RelicHouse$House", name := "lapses", desc := "(I)Z" } : Jvm.MethodName) prog_10_method_14_code (3 : Nat) (Option.some Jvm.ClassFile.FieldType.boolean)) ∈ lw_all := lw_g (lw_at lw_m7 91 rfl) rfl
theorem q1631 : (Jvm.Cond.methodLink "RelicHouse$House" (114 : Nat) ({ cls := "RelicHouse$House", name := "canLapse", desc := "(I)Z" } : Jvm.MethodName)) ∈ lw_all := lw_g (lw_at lw_m7 92 rfl) rfl
theorem q1636 : (Jvm.Cond.instanceMethod ({ cls := "RelicHouse$House", name := "day", desc := "()Z" } : Jvm.MethodName)) ∈ lw_all := lw_g (lw_at lw_m7 97 rfl) rfl
theorem q1637 : (Jvm.Cond.selects "RelicHouse$House" ({ cls := "RelicHouse$House", name := "day", desc := "()Z" } : Jvm.MethodName) ({ cls := "RelicHouse$House", name := "day", desc := "()Z" } : Jvm.MethodName)) ∈ lw_all := lw_g (lw_at lw_m7 98 rfl) rfl
theorem q1638 : (Jvm.Cond.code ({ cls := "RelicHouse$House", name := "day", desc := "()Z" } : Jvm.MethodName) prog_10_method_17_code (1 : Nat) (Option.some Jvm.ClassFile.FieldType.boolean)) ∈ lw_all := lw_g (lw_at lw_m7 99 rfl) rfl
theorem q1639 : (Jvm.Cond.methodLink "RelicHouse$House" (121 : Nat) ({ cls := "RelicHouse$House", name := "passes", desc := "()V" } : Jvm.MethodName)) ∈ lw_all := lw_g (lw_at lw_m7 100 rfl) rfl
theorem q1640 : (Jvm.Cond.instanceMethod ({ cls := "RelicHouse$House", name := "passes", desc := "()V" } : Jvm.MethodName)) ∈ lw_all := lw_g (lw_at lw_m7 101 rfl) rfl
theorem q1641 : (Jvm.Cond.selects "RelicHouse$House" ({ cls := "RelicHouse$House", name := "passes", desc := "()V" } : Jvm.MethodName) ({ cls := "RelicHouse$House", name := "passes", desc := "()V" } : Jvm.MethodName)) ∈ lw_all := lw_g (lw_at lw_m7 102 rfl) rfl
theorem q1642 : (Jvm.Cond.code ({ cls := "RelicHouse$House", name := "passes", desc := "()V" } : Jvm.MethodName) prog_10_method_18_code (2 : Nat) (Option.none : Option Jvm.ClassFile.FieldType)) ∈ lw_all := lw_g (lw_at lw_m7 103 rfl) rfl
theorem q1706 : (Jvm.Cond.instanceMethod ({ cls := "RelicHouse$House", name := "cured", desc := "()I" } : Jvm.MethodName)) ∈ lw_all := lw_g (lw_at lw_m7 167 rfl) rfl
theorem q1707 : (Jvm.Cond.selects "RelicHouse$House" ({ cls := "RelicHouse$House", name := "cured", desc := "()I" } : Jvm.MethodName) ({ cls := "RelicHouse$House", name := "cured", desc := "()I" } : Jvm.MethodName)) ∈ lw_all := lw_g (lw_at lw_m7 168 rfl) rfl
theorem q1708 : (Jvm.Cond.code ({ cls := "RelicHouse$House", name := "cured", desc := "()I" } : Jvm.MethodName) prog_10_method_5_code (3 : Nat) (Option.some Jvm.ClassFile.FieldType.int)) ∈ lw_all := lw_g (lw_at lw_m7 169 rfl) rfl
theorem q1709 : (Jvm.Cond.methodLinkNest "RelicHouse$House" (54 : Nat) ({ cls := "RelicHouse", name := "pilgrims", desc := "()I" } : Jvm.MethodName) "RelicHouse") ∈ lw_tbl := lw_at lw_m7 170 rfl
theorem q1711 : (Jvm.Cond.instanceMethod ({ cls := "RelicHouse$House", name := "powerAll", desc := "()I" } : Jvm.MethodName)) ∈ lw_all := lw_g (lw_at lw_m7 172 rfl) rfl
theorem q1712 : (Jvm.Cond.selects "RelicHouse$House" ({ cls := "RelicHouse$House", name := "powerAll", desc := "()I" } : Jvm.MethodName) ({ cls := "RelicHouse$House", name := "powerAll", desc := "()I" } : Jvm.MethodName)) ∈ lw_all := lw_g (lw_at lw_m7 173 rfl) rfl
theorem q1713 : (Jvm.Cond.code ({ cls := "RelicHouse$House", name := "powerAll", desc := "()I" } : Jvm.MethodName) prog_10_method_8_code (3 : Nat) (Option.some Jvm.ClassFile.FieldType.int)) ∈ lw_all := lw_g (lw_at lw_m7 174 rfl) rfl
theorem q2606 : (Jvm.Cond.castable "RelicHouse$House" "java/lang/Object") ∈ lw_tbl := lw_at lw_m11 107 rfl
theorem in_X10 : ∀ w ∈ wsX100, w ∈ lw_all := lw_in wsX100 [629, 631, 633, 635, 637, 639, 641, 643, 645, 647] (by decide +kernel) (by decide +kernel)
/-! RelicHouseModel -/
def RX11 : String := "RelicHouseModel"
def TX11 : u_T := fun k => match k with
  | 0 => ("RelicHouseModel", "thrown", "I", false)
  | 1 => ("RelicHouseModel", "tape", "I", false)
  | 2 => ("RelicHouseModel", "size", "I", false)
  | 3 => ("RelicHouseModel", "place", "I", false)
  | 4 => ("RelicHouseModel", "at", "I", false)
  | 5 => ("RelicHouseModel", "fault", "I", false)
  | 6 => ("RelicHouseModel", "faultAt", "I", false)
  | 7 => ("RelicHouseModel", "clauses", "I", false)
  | 8 => ("RelicHouseModel", "open", "I", false)
  | 9 => ("RelicHouseModel", "fed", "[I", true)
  | 10 => ("RelicHouseModel", "refused", "[I", true)
  | 11 => ("RelicHouseModel", "readTold", "[I", true)
  | 12 => ("RelicHouseModel", "told", "[I", true)
  | 13 => ("RelicHouseModel", "readTempted", "[I", true)
  | 14 => ("RelicHouseModel", "tempted", "[I", true)
  | 15 => ("RelicHouseModel", "readVow", "[I", true)
  | 16 => ("RelicHouseModel", "vow", "[I", true)
  | 17 => ("RelicHouseModel", "readRelic", "[[I", true)
  | 18 => ("RelicHouseModel", "relic", "[[I", true)
  | 19 => ("RelicHouseModel", "readPilgrim", "[[I", true)
  | 20 => ("RelicHouseModel", "pilgrim", "[[I", true)
  | 21 => ("RelicHouseModel", "lawMany", "I", false)
  | 22 => ("RelicHouseModel", "readLawMany", "I", false)
  | 23 => ("RelicHouseModel", "law", "[[I", true)
  | 24 => ("RelicHouseModel", "readLaw", "[[I", true)
  | 25 => ("RelicHouseModel", "line", "[[I", true)
  | 26 => ("RelicHouseModel", "readLine", "[[I", true)
  | 27 => ("RelicHouseModel", "stack", "[I", true)
  | 28 => ("RelicHouseModel", "known", "[I", true)
  | 29 => ("RelicHouseModel", "step", "[[I", true)
  | 30 => ("RelicHouseModel", "steps", "I", false)
  | 31 => ("RelicHouseModel", "now", "[I", true)
  | 32 => ("RelicHouseModel", "trial", "[I", true)
  | 33 => ("RelicHouseModel", "before", "[[I", true)
  | 34 => ("RelicHouseModel", "kept", "[[I", true)
  | 35 => ("RelicHouseModel", "lines", "I", false)
  | 36 => ("RelicHouseModel", "works", "I", false)
  | 37 => ("RelicHouseModel", "refusedSteps", "I", false)
  | 38 => ("RelicHouseModel", "images", "I", false)
  | 39 => ("RelicHouseModel", "spot", "I", false)
  | 40 => ("RelicHouseModel", "begun", "I", false)
  | 41 => ("RelicHouseModel", "doneSteps", "I", false)
  | 42 => ("RelicHouseModel", "by", "[I", true)
  | 43 => ("RelicHouseModel", "bestBy", "[I", true)
  | 44 => ("RelicHouseModel", "ableTo", "[I", true)
  | 45 => ("RelicHouseModel", "curable", "[I", true)
  | 46 => ("RelicHouseModel", "mostCured", "I", false)
  | 47 => ("RelicHouseModel", "lots", "I", false)
  | _ => ("RelicHouseModel", "lapsesIn", "I", false)
def tyX11 : Nat → FieldType := fun k => match k with
  | 0 => .int
  | 1 => .int
  | 2 => .int
  | 3 => .int
  | 4 => .int
  | 5 => .int
  | 6 => .int
  | 7 => .int
  | 8 => .int
  | 9 => .array .int
  | 10 => .array .int
  | 11 => .array .int
  | 12 => .array .int
  | 13 => .array .int
  | 14 => .array .int
  | 15 => .array .int
  | 16 => .array .int
  | 17 => .array (.array .int)
  | 18 => .array (.array .int)
  | 19 => .array (.array .int)
  | 20 => .array (.array .int)
  | 21 => .int
  | 22 => .int
  | 23 => .array (.array .int)
  | 24 => .array (.array .int)
  | 25 => .array (.array .int)
  | 26 => .array (.array .int)
  | 27 => .array .int
  | 28 => .array .int
  | 29 => .array (.array .int)
  | 30 => .int
  | 31 => .array .int
  | 32 => .array .int
  | 33 => .array (.array .int)
  | 34 => .array (.array .int)
  | 35 => .int
  | 36 => .int
  | 37 => .int
  | 38 => .int
  | 39 => .int
  | 40 => .int
  | 41 => .int
  | 42 => .array .int
  | 43 => .array .int
  | 44 => .array .int
  | 45 => .array .int
  | 46 => .int
  | 47 => .int
  | _ => .int
abbrev wsX110 : List Cond := u_ws RX11 TX11 49
theorem nmX11 : ∀ a, a < 49 → ∀ b, b < 49 → a ≠ b → (TX11 a).2.1 ≠ (TX11 b).2.1 := by decide +kernel
theorem tyX11_ok : ∀ k, k < 49 → parseFieldDescriptor (TX11 k).2.2.1 = some (tyX11 k) := by decide +kernel
abbrev cX11_init : ByteArray := prog_33_method_1_code
def yX11_init : MethodName := ⟨RX11, "<init>", "()V"⟩
abbrev cX11_tellsNothing : ByteArray := prog_33_method_2_code
def yX11_tellsNothing : MethodName := ⟨RX11, "tellsNothing", "()V"⟩
abbrev cX11_beginsAnew : ByteArray := prog_33_method_33_code
def yX11_beginsAnew : MethodName := ⟨RX11, "beginsAnew", "()V"⟩
abbrev cX11_lays : ByteArray := prog_33_method_31_code
def yX11_lays : MethodName := ⟨RX11, "lays", "([[I[[II)V"⟩
abbrev cX11_thrown : ByteArray := prog_33_method_3_code
def yX11_thrown : MethodName := ⟨RX11, "thrown", "()I"⟩
abbrev cX11_feed : ByteArray := prog_33_method_9_code
def yX11_feed : MethodName := ⟨RX11, "feed", "(IIIII)I"⟩
abbrev cX11_house : ByteArray := prog_33_method_30_code
def yX11_house : MethodName := ⟨RX11, "house", "(I)I"⟩
abbrev cX11_in : ByteArray := prog_33_method_5_code
def yX11_in : MethodName := ⟨RX11, "in", "(III)Z"⟩
abbrev cX11_bad : ByteArray := prog_33_method_4_code
def yX11_bad : MethodName := ⟨RX11, "bad", "(ZII)Z"⟩
abbrev cX11_starts : ByteArray := prog_33_method_23_code
def yX11_starts : MethodName := ⟨RX11, "starts", "(I)V"⟩
abbrev cX11_blanks : ByteArray := prog_33_method_11_code
def yX11_blanks : MethodName := ⟨RX11, "blanks", "()V"⟩
abbrev cX11_byteAt : ByteArray := prog_33_method_10_code
def yX11_byteAt : MethodName := ⟨RX11, "byteAt", "(I)I"⟩
abbrev cX11_clause : ByteArray := prog_33_method_29_code
def yX11_clause : MethodName := ⟨RX11, "clause", "()V"⟩
abbrev cX11_kindHere : ByteArray := prog_33_method_27_code
def yX11_kindHere : MethodName := ⟨RX11, "kindHere", "()I"⟩
abbrev cX11_isWord : ByteArray := prog_33_method_18_code
def yX11_isWord : MethodName := ⟨RX11, "isWord", "(IIIIII)Z"⟩
abbrev cX11_wordHere : ByteArray := prog_33_method_16_code
def yX11_wordHere : MethodName := ⟨RX11, "wordHere", "()I"⟩
abbrev cX11_isSmall : ByteArray := prog_33_method_14_code
def yX11_isSmall : MethodName := ⟨RX11, "isSmall", "(I)Z"⟩
abbrev cX11_six : ByteArray := prog_33_method_17_code
def yX11_six : MethodName := ⟨RX11, "six", "(IIIIII)I"⟩
abbrev cX11_isPilgrim : ByteArray := prog_33_method_25_code
def yX11_isPilgrim : MethodName := ⟨RX11, "isPilgrim", "()Z"⟩
abbrev cX11_wrong : ByteArray := prog_33_method_12_code
def yX11_wrong : MethodName := ⟨RX11, "wrong", "(II)V"⟩
abbrev cX11_mostOf : ByteArray := prog_33_method_28_code
def yX11_mostOf : MethodName := ⟨RX11, "mostOf", "(I)I"⟩
abbrev cX11_skipWord : ByteArray := prog_33_method_19_code
def yX11_skipWord : MethodName := ⟨RX11, "skipWord", "()V"⟩
abbrev cX11_number : ByteArray := prog_33_method_15_code
def yX11_number : MethodName := ⟨RX11, "number", "(II)I"⟩
abbrev cX11_isDigit : ByteArray := prog_33_method_13_code
def yX11_isDigit : MethodName := ⟨RX11, "isDigit", "(I)Z"⟩
abbrev cX11_sign : ByteArray := prog_33_method_21_code
def yX11_sign : MethodName := ⟨RX11, "sign", "(I)V"⟩
abbrev cX11_ends : ByteArray := prog_33_method_24_code
def yX11_ends : MethodName := ⟨RX11, "ends", "()I"⟩
abbrev cX11_law : ByteArray := prog_33_method_40_code
def yX11_law : MethodName := ⟨RX11, "law", "(I)I"⟩
abbrev cX11_sum : ByteArray := prog_33_method_36_code
def yX11_sum : MethodName := ⟨RX11, "sum", "()V"⟩
abbrev cX11_product : ByteArray := prog_33_method_37_code
def yX11_product : MethodName := ⟨RX11, "product", "()V"⟩
abbrev cX11_one : ByteArray := prog_33_method_39_code
def yX11_one : MethodName := ⟨RX11, "one", "()V"⟩
abbrev cX11_opensOne : ByteArray := prog_33_method_35_code
def yX11_opensOne : MethodName := ⟨RX11, "opensOne", "()Z"⟩
abbrev cX11_notes : ByteArray := prog_33_method_34_code
def yX11_notes : MethodName := ⟨RX11, "notes", "(II)V"⟩
abbrev cX11_knownHere : ByteArray := prog_33_method_38_code
def yX11_knownHere : MethodName := ⟨RX11, "knownHere", "()I"⟩
abbrev cX11_takes : ByteArray := prog_33_method_20_code
def yX11_takes : MethodName := ⟨RX11, "takes", "(IIIIII)Z"⟩
abbrev cX11_isTempted : ByteArray := prog_33_method_26_code
def yX11_isTempted : MethodName := ⟨RX11, "isTempted", "()Z"⟩
abbrev cX11_takesSign : ByteArray := prog_33_method_22_code
def yX11_takesSign : MethodName := ⟨RX11, "takesSign", "(I)Z"⟩
abbrev cX11_seen : ByteArray := prog_33_method_45_code
def yX11_seen : MethodName := ⟨RX11, "seen", "(I)I"⟩
abbrev cX11_has : ByteArray := prog_33_method_8_code
def yX11_has : MethodName := ⟨RX11, "has", "(II)Z"⟩
abbrev cX11_fault : ByteArray := prog_33_method_46_code
def yX11_fault : MethodName := ⟨RX11, "fault", "()I"⟩
abbrev cX11_work : ByteArray := prog_33_method_61_code
def yX11_work : MethodName := ⟨RX11, "work", "(I)I"⟩
abbrev cX11_readsStep : ByteArray := prog_33_method_44_code
def yX11_readsStep : MethodName := ⟨RX11, "readsStep", "()V"⟩
abbrev cX11_stepHere : ByteArray := prog_33_method_43_code
def yX11_stepHere : MethodName := ⟨RX11, "stepHere", "()I"⟩
abbrev cX11_copies : ByteArray := prog_33_method_32_code
def yX11_copies : MethodName := ⟨RX11, "copies", "([I[I)V"⟩
abbrev cX11_goes : ByteArray := prog_33_method_60_code
def yX11_goes : MethodName := ⟨RX11, "goes", "(II)V"⟩
abbrev cX11_does : ByteArray := prog_33_method_59_code
def yX11_does : MethodName := ⟨RX11, "does", "([I[I)Z"⟩
abbrev cX11_isKept : ByteArray := prog_33_method_47_code
def yX11_isKept : MethodName := ⟨RX11, "isKept", "([II)Z"⟩
abbrev cX11_lapses : ByteArray := prog_33_method_56_code
def yX11_lapses : MethodName := ⟨RX11, "lapses", "([II)Z"⟩
abbrev cX11_canLapse : ByteArray := prog_33_method_55_code
def yX11_canLapse : MethodName := ⟨RX11, "canLapse", "([II)Z"⟩
abbrev cX11_keptOf : ByteArray := prog_33_method_48_code
def yX11_keptOf : MethodName := ⟨RX11, "keptOf", "([II)I"⟩
abbrev cX11_cures : ByteArray := prog_33_method_57_code
def yX11_cures : MethodName := ⟨RX11, "cures", "([III)Z"⟩
abbrev cX11_canCure : ByteArray := prog_33_method_54_code
def yX11_canCure : MethodName := ⟨RX11, "canCure", "([III)Z"⟩
abbrev cX11_isAble : ByteArray := prog_33_method_53_code
def yX11_isAble : MethodName := ⟨RX11, "isAble", "([III)Z"⟩
abbrev cX11_power : ByteArray := prog_33_method_52_code
def yX11_power : MethodName := ⟨RX11, "power", "([II)I"⟩
abbrev cX11_powerOf : ByteArray := prog_33_method_51_code
def yX11_powerOf : MethodName := ⟨RX11, "powerOf", "([IIIII)I"⟩
abbrev cX11_ones : ByteArray := prog_33_method_49_code
def yX11_ones : MethodName := ⟨RX11, "ones", "(I)I"⟩
abbrev cX11_powerBy : ByteArray := prog_33_method_50_code
def yX11_powerBy : MethodName := ⟨RX11, "powerBy", "(IIIIIIII)I"⟩
abbrev cX11_byLaw : ByteArray := prog_33_method_42_code
def yX11_byLaw : MethodName := ⟨RX11, "byLaw", "()I"⟩
abbrev cX11_by : ByteArray := prog_33_method_41_code
def yX11_by : MethodName := ⟨RX11, "by", "(III)I"⟩
abbrev cX11_less : ByteArray := prog_33_method_6_code
def yX11_less : MethodName := ⟨RX11, "less", "(II)I"⟩
abbrev cX11_more : ByteArray := prog_33_method_7_code
def yX11_more : MethodName := ⟨RX11, "more", "(II)I"⟩
abbrev cX11_dayEnds : ByteArray := prog_33_method_58_code
def yX11_dayEnds : MethodName := ⟨RX11, "dayEnds", "([I)V"⟩
abbrev cX11_undo : ByteArray := prog_33_method_62_code
def yX11_undo : MethodName := ⟨RX11, "undo", "()I"⟩
abbrev cX11_told : ByteArray := prog_33_method_65_code
def yX11_told : MethodName := ⟨RX11, "told", "(I)I"⟩
abbrev cX11_curedIn : ByteArray := prog_33_method_64_code
def yX11_curedIn : MethodName := ⟨RX11, "curedIn", "([I)I"⟩
abbrev cX11_powersIn : ByteArray := prog_33_method_63_code
def yX11_powersIn : MethodName := ⟨RX11, "powersIn", "([I)I"⟩
abbrev cX11_sister : ByteArray := prog_33_method_69_code
def yX11_sister : MethodName := ⟨RX11, "sister", "(II)I"⟩
abbrev cX11_isSister : ByteArray := prog_33_method_66_code
def yX11_isSister : MethodName := ⟨RX11, "isSister", "(I)Z"⟩
abbrev cX11_relic : ByteArray := prog_33_method_70_code
def yX11_relic : MethodName := ⟨RX11, "relic", "(II)I"⟩
abbrev cX11_isRelic : ByteArray := prog_33_method_67_code
def yX11_isRelic : MethodName := ⟨RX11, "isRelic", "(I)Z"⟩
abbrev cX11_pilgrim : ByteArray := prog_33_method_71_code
def yX11_pilgrim : MethodName := ⟨RX11, "pilgrim", "(II)I"⟩
abbrev cX11_isPerson : ByteArray := prog_33_method_68_code
def yX11_isPerson : MethodName := ⟨RX11, "isPerson", "(I)Z"⟩
abbrev cX11_would : ByteArray := prog_33_method_72_code
def yX11_would : MethodName := ⟨RX11, "would", "(IIIIIIII)I"⟩
abbrev cX11_can : ByteArray := prog_33_method_73_code
def yX11_can : MethodName := ⟨RX11, "can", "(II)Z"⟩
abbrev cX11_when : ByteArray := prog_33_method_74_code
def yX11_when : MethodName := ⟨RX11, "when", "(II)I"⟩
abbrev cX11_ahead : ByteArray := prog_33_method_75_code
def yX11_ahead : MethodName := ⟨RX11, "ahead", "(III)I"⟩
abbrev cX11_hopeless : ByteArray := prog_33_method_76_code
def yX11_hopeless : MethodName := ⟨RX11, "hopeless", "(I)I"⟩
abbrev cX11_match : ByteArray := prog_33_method_79_code
def yX11_match : MethodName := ⟨RX11, "match", "()I"⟩
abbrev cX11_matches : ByteArray := prog_33_method_78_code
def yX11_matches : MethodName := ⟨RX11, "matches", "()V"⟩
abbrev cX11_matchesFrom : ByteArray := prog_33_method_77_code
def yX11_matchesFrom : MethodName := ⟨RX11, "matchesFrom", "(III)V"⟩
abbrev cX11_matched : ByteArray := prog_33_method_80_code
def yX11_matched : MethodName := ⟨RX11, "matched", "(I)I"⟩
abbrev cX11_lapsed : ByteArray := prog_33_method_83_code
def yX11_lapsed : MethodName := ⟨RX11, "lapsed", "(I)I"⟩
abbrev cX11_isLapsed : ByteArray := prog_33_method_82_code
def yX11_isLapsed : MethodName := ⟨RX11, "isLapsed", "(I)Z"⟩
abbrev cX11_powerIf : ByteArray := prog_33_method_81_code
def yX11_powerIf : MethodName := ⟨RX11, "powerIf", "(IZ)I"⟩
abbrev cX11_ask : ByteArray := prog_33_method_85_code
def yX11_ask : MethodName := ⟨RX11, "ask", "(I)I"⟩
abbrev cX11_isTold : ByteArray := prog_33_method_84_code
def yX11_isTold : MethodName := ⟨RX11, "isTold", "(I)Z"⟩
abbrev cX11_best : ByteArray := prog_33_method_88_code
def yX11_best : MethodName := ⟨RX11, "best", "(III)J"⟩
abbrev cX11_goesBest : ByteArray := prog_33_method_86_code
def yX11_goesBest : MethodName := ⟨RX11, "goesBest", "(IIIII)J"⟩
abbrev cX11_partOf : ByteArray := prog_33_method_87_code
def yX11_partOf : MethodName := ⟨RX11, "partOf", "(JJI)J"⟩
abbrev cX11_without : ByteArray := prog_33_method_89_code
def yX11_without : MethodName := ⟨RX11, "without", "(III)J"⟩
abbrev cX11_ring : ByteArray := prog_33_method_91_code
def yX11_ring : MethodName := ⟨RX11, "ring", "(I)I"⟩
abbrev cX11_ringOf : ByteArray := prog_33_method_90_code
def yX11_ringOf : MethodName := ⟨RX11, "ringOf", "(I)I"⟩
abbrev cX11_follows : ByteArray := prog_33_method_92_code
def yX11_follows : MethodName := ⟨RX11, "follows", "(II)I"⟩
abbrev cX11_tempted : ByteArray := prog_33_method_95_code
def yX11_tempted : MethodName := ⟨RX11, "tempted", "(III)I"⟩
abbrev cX11_isBest : ByteArray := prog_33_method_94_code
def yX11_isBest : MethodName := ⟨RX11, "isBest", "(IIII)Z"⟩
abbrev cX11_hasBy : ByteArray := prog_33_method_93_code
def yX11_hasBy : MethodName := ⟨RX11, "hasBy", "(IIII)I"⟩
abbrev cX11_alms : ByteArray := prog_33_method_97_code
def yX11_alms : MethodName := ⟨RX11, "alms", "(III)I"⟩
abbrev cX11_givenBy : ByteArray := prog_33_method_96_code
def yX11_givenBy : MethodName := ⟨RX11, "givenBy", "(II)I"⟩
abbrev cX11_strongest : ByteArray := prog_33_method_98_code
def yX11_strongest : MethodName := ⟨RX11, "strongest", "(I)I"⟩
abbrev cX11_eldest : ByteArray := prog_33_method_99_code
def yX11_eldest : MethodName := ⟨RX11, "eldest", "(I)I"⟩
abbrev cX11_idle : ByteArray := prog_33_method_100_code
def yX11_idle : MethodName := ⟨RX11, "idle", "()I"⟩
abbrev cX11_needs : ByteArray := prog_33_method_101_code
def yX11_needs : MethodName := ⟨RX11, "needs", "(I)I"⟩
abbrev cX11_strength : ByteArray := prog_33_method_102_code
def yX11_strength : MethodName := ⟨RX11, "strength", "(I)I"⟩
abbrev cX11_weakest : ByteArray := prog_33_method_103_code
def yX11_weakest : MethodName := ⟨RX11, "weakest", "(I)I"⟩
abbrev cX11_bare : ByteArray := prog_33_method_104_code
def yX11_bare : MethodName := ⟨RX11, "bare", "()I"⟩
abbrev cX11_year : ByteArray := prog_33_method_108_code
def yX11_year : MethodName := ⟨RX11, "year", "(III)I"⟩
abbrev cX11_yearBy : ByteArray := prog_33_method_106_code
def yX11_yearBy : MethodName := ⟨RX11, "yearBy", "(II)V"⟩
abbrev cX11_draw : ByteArray := prog_33_method_105_code
def yX11_draw : MethodName := ⟨RX11, "draw", "(I)I"⟩
abbrev cX11_curedMore : ByteArray := prog_33_method_107_code
def yX11_curedMore : MethodName := ⟨RX11, "curedMore", "()I"⟩
abbrev cX11_span : ByteArray := prog_33_method_109_code
def yX11_span : MethodName := ⟨RX11, "span", "(IIIII)I"⟩
abbrev cX11_image : ByteArray := prog_33_method_112_code
def yX11_image : MethodName := ⟨RX11, "image", "()I"⟩
abbrev cX11_putsAll : ByteArray := prog_33_method_111_code
def yX11_putsAll : MethodName := ⟨RX11, "putsAll", "([IZ)V"⟩
abbrev cX11_puts : ByteArray := prog_33_method_110_code
def yX11_puts : MethodName := ⟨RX11, "puts", "([IIZ)I"⟩
abbrev cX11_restore : ByteArray := prog_33_method_113_code
def yX11_restore : MethodName := ⟨RX11, "restore", "()I"⟩
abbrev cX11_status : ByteArray := prog_33_method_114_code
def yX11_status : MethodName := ⟨RX11, "status", "(I)I"⟩
abbrev cX11_count : ByteArray := prog_33_method_115_code
def yX11_count : MethodName := ⟨RX11, "count", "(I)I"⟩
theorem q129 : (Jvm.Cond.initialized "RelicHouseModel") ∈ lw_all := lw_g (lw_at lw_m1 30 rfl) rfl
theorem q1249 : (Jvm.Cond.selects "RelicHouseModel" ({ cls := "java/lang/Object", name := "getClass", desc := "()Ljava/lang/Class;" } : Jvm.MethodName) ({ cls := "java/lang/Object", name := "getClass", desc := "()Ljava/lang/Class;" } : Jvm.MethodName)) ∈ lw_all := lw_g (lw_at lw_m5 190 rfl) rfl
theorem q1978 : (Jvm.Cond.instantiable "RelicHouseModel" (49 : Nat)) ∈ lw_all := lw_g (lw_at lw_m8 199 rfl) rfl
theorem q1980 : (Jvm.Cond.instanceMethod ({ cls := "RelicHouseModel", name := "<init>", desc := "()V" } : Jvm.MethodName)) ∈ lw_all := lw_g (lw_at lw_m8 201 rfl) rfl
theorem q1981 : (Jvm.Cond.code ({ cls := "RelicHouseModel", name := "<init>", desc := "()V" } : Jvm.MethodName) prog_33_method_1_code (1 : Nat) (Option.none : Option Jvm.ClassFile.FieldType)) ∈ lw_all := lw_g (lw_at lw_m8 202 rfl) rfl
theorem q1982 : (Jvm.Cond.methodLink "RelicHouseModel" (1 : Nat) ({ cls := "java/lang/Object", name := "<init>", desc := "()V" } : Jvm.MethodName)) ∈ lw_all := lw_g (lw_at lw_m8 203 rfl) rfl
theorem q1983 : (Jvm.Cond.classLink "RelicHouseModel" (38 : Nat) "[[I") ∈ lw_all := lw_g (lw_at lw_m8 204 rfl) rfl
theorem q1985 : (Jvm.Cond.methodLink "RelicHouseModel" (97 : Nat) ({ cls := "RelicHouseModel", name := "tellsNothing", desc := "()V" } : Jvm.MethodName)) ∈ lw_all := lw_g (lw_at lw_m8 206 rfl) rfl
theorem q1986 : (Jvm.Cond.privateMethod ({ cls := "RelicHouseModel", name := "tellsNothing", desc := "()V" } : Jvm.MethodName)) ∈ lw_tbl := lw_at lw_m8 207 rfl
theorem q1987 : (Jvm.Cond.instanceMethod ({ cls := "RelicHouseModel", name := "tellsNothing", desc := "()V" } : Jvm.MethodName)) ∈ lw_all := lw_g (lw_at lw_m8 208 rfl) rfl
theorem q1988 : (Jvm.Cond.code ({ cls := "RelicHouseModel", name := "tellsNothing", desc := "()V" } : Jvm.MethodName) prog_33_method_2_code (2 : Nat) (Option.none : Option Jvm.ClassFile.FieldType)) ∈ lw_all := lw_g (lw_at lw_m8 209 rfl) rfl
theorem q1989 : (Jvm.Cond.methodLink "RelicHouseModel" (100 : Nat) ({ cls := "RelicHouseModel", name := "beginsAnew", desc := "()V" } : Jvm.MethodName)) ∈ lw_all := lw_g (lw_at lw_m8 210 rfl) rfl
theorem q1990 : (Jvm.Cond.privateMethod ({ cls := "RelicHouseModel", name := "beginsAnew", desc := "()V" } : Jvm.MethodName)) ∈ lw_tbl := lw_at lw_m8 211 rfl
theorem q1991 : (Jvm.Cond.instanceMethod ({ cls := "RelicHouseModel", name := "beginsAnew", desc := "()V" } : Jvm.MethodName)) ∈ lw_all := lw_g (lw_at lw_m8 212 rfl) rfl
theorem q1992 : (Jvm.Cond.code ({ cls := "RelicHouseModel", name := "beginsAnew", desc := "()V" } : Jvm.MethodName) prog_33_method_33_code (2 : Nat) (Option.none : Option Jvm.ClassFile.FieldType)) ∈ lw_all := lw_g (lw_at lw_m8 213 rfl) rfl
theorem q1993 : (Jvm.Cond.methodLink "RelicHouseModel" (196 : Nat) ({ cls := "RelicHouseModel", name := "lays", desc := "([[I[[II)V" } : Jvm.MethodName)) ∈ lw_all := lw_g (lw_at lw_m8 214 rfl) rfl
theorem q1994 : (Jvm.Cond.static ({ cls := "RelicHouseModel", name := "lays", desc := "([[I[[II)V" } : Jvm.MethodName)) ∈ lw_all := lw_g (lw_at lw_m8 215 rfl) rfl
theorem q1995 : (Jvm.Cond.code ({ cls := "RelicHouseModel", name := "lays", desc := "([[I[[II)V" } : Jvm.MethodName) prog_33_method_31_code (5 : Nat) (Option.none : Option Jvm.ClassFile.FieldType)) ∈ lw_all := lw_g (lw_at lw_m8 216 rfl) rfl
theorem q1996 : (Jvm.Cond.fieldLink "RelicHouseModel" (103 : Nat) "RelicHouseModel" "thrown" "I") ∈ lw_all := lw_g (lw_at lw_m8 217 rfl) rfl
theorem q1997 : (Jvm.Cond.fieldLink "RelicHouseModel" (106 : Nat) "RelicHouseModel" "tape" "I") ∈ lw_all := lw_g (lw_at lw_m8 218 rfl) rfl
theorem q1998 : (Jvm.Cond.fieldLink "RelicHouseModel" (109 : Nat) "RelicHouseModel" "size" "I") ∈ lw_all := lw_g (lw_at lw_m8 219 rfl) rfl
theorem q1999 : (Jvm.Cond.fieldLink "RelicHouseModel" (9 : Nat) "RelicHouseModel" "place" "I") ∈ lw_all := lw_g (lw_at lw_m8 220 rfl) rfl
theorem q2000 : (Jvm.Cond.fieldLink "RelicHouseModel" (112 : Nat) "RelicHouseModel" "at" "I") ∈ lw_all := lw_g (lw_at lw_m8 221 rfl) rfl
theorem q2001 : (Jvm.Cond.fieldLink "RelicHouseModel" (119 : Nat) "RelicHouseModel" "fault" "I") ∈ lw_all := lw_g (lw_at lw_m8 222 rfl) rfl
theorem q2002 : (Jvm.Cond.fieldLink "RelicHouseModel" (122 : Nat) "RelicHouseModel" "faultAt" "I") ∈ lw_all := lw_g (lw_at lw_m8 223 rfl) rfl
theorem q2003 : (Jvm.Cond.fieldLink "RelicHouseModel" (159 : Nat) "RelicHouseModel" "clauses" "I") ∈ lw_all := lw_g (lw_at lw_m8 224 rfl) rfl
theorem q2004 : (Jvm.Cond.fieldLink "RelicHouseModel" (162 : Nat) "RelicHouseModel" "open" "I") ∈ lw_all := lw_g (lw_at lw_m8 225 rfl) rfl
theorem q2005 : (Jvm.Cond.fieldLink "RelicHouseModel" (13 : Nat) "RelicHouseModel" "fed" "[I") ∈ lw_all := lw_g (lw_at lw_m8 226 rfl) rfl
theorem q2006 : (Jvm.Cond.fieldLink "RelicHouseModel" (17 : Nat) "RelicHouseModel" "refused" "[I") ∈ lw_all := lw_g (lw_at lw_m8 227 rfl) rfl
theorem q2007 : (Jvm.Cond.fieldLink "RelicHouseModel" (20 : Nat) "RelicHouseModel" "readTold" "[I") ∈ lw_all := lw_g (lw_at lw_m8 228 rfl) rfl
theorem q2008 : (Jvm.Cond.fieldLink "RelicHouseModel" (23 : Nat) "RelicHouseModel" "told" "[I") ∈ lw_all := lw_g (lw_at lw_m8 229 rfl) rfl
theorem q2009 : (Jvm.Cond.fieldLink "RelicHouseModel" (26 : Nat) "RelicHouseModel" "readTempted" "[I") ∈ lw_all := lw_g (lw_at lw_m8 230 rfl) rfl
theorem q2010 : (Jvm.Cond.fieldLink "RelicHouseModel" (29 : Nat) "RelicHouseModel" "tempted" "[I") ∈ lw_all := lw_g (lw_at lw_m8 231 rfl) rfl
theorem q2011 : (Jvm.Cond.fieldLink "RelicHouseModel" (32 : Nat) "RelicHouseModel" "readVow" "[I") ∈ lw_all := lw_g (lw_at lw_m8 232 rfl) rfl
theorem q2012 : (Jvm.Cond.fieldLink "RelicHouseModel" (35 : Nat) "RelicHouseModel" "vow" "[I") ∈ lw_all := lw_g (lw_at lw_m8 233 rfl) rfl
theorem q2013 : (Jvm.Cond.fieldLink "RelicHouseModel" (40 : Nat) "RelicHouseModel" "readRelic" "[[I") ∈ lw_all := lw_g (lw_at lw_m8 234 rfl) rfl
theorem q2014 : (Jvm.Cond.fieldLink "RelicHouseModel" (43 : Nat) "RelicHouseModel" "relic" "[[I") ∈ lw_all := lw_g (lw_at lw_m8 235 rfl) rfl
theorem q2015 : (Jvm.Cond.fieldLink "RelicHouseModel" (46 : Nat) "RelicHouseModel" "readPilgrim" "[[I") ∈ lw_all := lw_g (lw_at lw_m8 236 rfl) rfl
theorem q2016 : (Jvm.Cond.fieldLink "RelicHouseModel" (49 : Nat) "RelicHouseModel" "pilgrim" "[[I") ∈ lw_all := lw_g (lw_at lw_m8 237 rfl) rfl
theorem q2017 : (Jvm.Cond.fieldLink "RelicHouseModel" (200 : Nat) "RelicHouseModel" "lawMany" "I") ∈ lw_all := lw_g (lw_at lw_m8 238 rfl) rfl
theorem q2018 : (Jvm.Cond.fieldLink "RelicHouseModel" (215 : Nat) "RelicHouseModel" "readLawMany" "I") ∈ lw_all := lw_g (lw_at lw_m8 239 rfl) rfl
theorem q2019 : (Jvm.Cond.fieldLink "RelicHouseModel" (52 : Nat) "RelicHouseModel" "law" "[[I") ∈ lw_all := lw_g (lw_at lw_m9 0 rfl) rfl
theorem q2020 : (Jvm.Cond.fieldLink "RelicHouseModel" (55 : Nat) "RelicHouseModel" "readLaw" "[[I") ∈ lw_all := lw_g (lw_at lw_m9 1 rfl) rfl
theorem q2021 : (Jvm.Cond.fieldLink "RelicHouseModel" (58 : Nat) "RelicHouseModel" "line" "[[I") ∈ lw_all := lw_g (lw_at lw_m9 2 rfl) rfl
theorem q2022 : (Jvm.Cond.fieldLink "RelicHouseModel" (61 : Nat) "RelicHouseModel" "readLine" "[[I") ∈ lw_all := lw_g (lw_at lw_m9 3 rfl) rfl
theorem q2023 : (Jvm.Cond.fieldLink "RelicHouseModel" (64 : Nat) "RelicHouseModel" "stack" "[I") ∈ lw_all := lw_g (lw_at lw_m9 4 rfl) rfl
theorem q2024 : (Jvm.Cond.fieldLink "RelicHouseModel" (67 : Nat) "RelicHouseModel" "known" "[I") ∈ lw_all := lw_g (lw_at lw_m9 5 rfl) rfl
theorem q2025 : (Jvm.Cond.fieldLink "RelicHouseModel" (70 : Nat) "RelicHouseModel" "step" "[[I") ∈ lw_all := lw_g (lw_at lw_m9 6 rfl) rfl
theorem q2026 : (Jvm.Cond.fieldLink "RelicHouseModel" (257 : Nat) "RelicHouseModel" "steps" "I") ∈ lw_all := lw_g (lw_at lw_m9 7 rfl) rfl
theorem q2027 : (Jvm.Cond.fieldLink "RelicHouseModel" (73 : Nat) "RelicHouseModel" "now" "[I") ∈ lw_all := lw_g (lw_at lw_m9 8 rfl) rfl
theorem q2028 : (Jvm.Cond.fieldLink "RelicHouseModel" (76 : Nat) "RelicHouseModel" "trial" "[I") ∈ lw_all := lw_g (lw_at lw_m9 9 rfl) rfl
theorem q2029 : (Jvm.Cond.fieldLink "RelicHouseModel" (79 : Nat) "RelicHouseModel" "before" "[[I") ∈ lw_all := lw_g (lw_at lw_m9 10 rfl) rfl
theorem q2030 : (Jvm.Cond.fieldLink "RelicHouseModel" (82 : Nat) "RelicHouseModel" "kept" "[[I") ∈ lw_all := lw_g (lw_at lw_m9 11 rfl) rfl
theorem q2031 : (Jvm.Cond.fieldLink "RelicHouseModel" (203 : Nat) "RelicHouseModel" "lines" "I") ∈ lw_all := lw_g (lw_at lw_m9 12 rfl) rfl
theorem q2032 : (Jvm.Cond.fieldLink "RelicHouseModel" (206 : Nat) "RelicHouseModel" "works" "I") ∈ lw_all := lw_g (lw_at lw_m9 13 rfl) rfl
theorem q2033 : (Jvm.Cond.fieldLink "RelicHouseModel" (209 : Nat) "RelicHouseModel" "refusedSteps" "I") ∈ lw_all := lw_g (lw_at lw_m9 14 rfl) rfl
theorem q2034 : (Jvm.Cond.fieldLink "RelicHouseModel" (212 : Nat) "RelicHouseModel" "images" "I") ∈ lw_all := lw_g (lw_at lw_m9 15 rfl) rfl
theorem q2035 : (Jvm.Cond.fieldLink "RelicHouseModel" (404 : Nat) "RelicHouseModel" "spot" "I") ∈ lw_all := lw_g (lw_at lw_m9 16 rfl) rfl
theorem q2036 : (Jvm.Cond.fieldLink "RelicHouseModel" (312 : Nat) "RelicHouseModel" "begun" "I") ∈ lw_all := lw_g (lw_at lw_m9 17 rfl) rfl
theorem q2037 : (Jvm.Cond.fieldLink "RelicHouseModel" (322 : Nat) "RelicHouseModel" "doneSteps" "I") ∈ lw_all := lw_g (lw_at lw_m9 18 rfl) rfl
theorem q2038 : (Jvm.Cond.fieldLink "RelicHouseModel" (85 : Nat) "RelicHouseModel" "by" "[I") ∈ lw_all := lw_g (lw_at lw_m9 19 rfl) rfl
theorem q2039 : (Jvm.Cond.fieldLink "RelicHouseModel" (88 : Nat) "RelicHouseModel" "bestBy" "[I") ∈ lw_all := lw_g (lw_at lw_m9 20 rfl) rfl
theorem q2040 : (Jvm.Cond.fieldLink "RelicHouseModel" (91 : Nat) "RelicHouseModel" "ableTo" "[I") ∈ lw_all := lw_g (lw_at lw_m9 21 rfl) rfl
theorem q2041 : (Jvm.Cond.fieldLink "RelicHouseModel" (94 : Nat) "RelicHouseModel" "curable" "[I") ∈ lw_all := lw_g (lw_at lw_m9 22 rfl) rfl
theorem q2042 : (Jvm.Cond.fieldLink "RelicHouseModel" (345 : Nat) "RelicHouseModel" "mostCured" "I") ∈ lw_all := lw_g (lw_at lw_m9 23 rfl) rfl
theorem q2043 : (Jvm.Cond.fieldLink "RelicHouseModel" (388 : Nat) "RelicHouseModel" "lots" "I") ∈ lw_all := lw_g (lw_at lw_m9 24 rfl) rfl
theorem q2044 : (Jvm.Cond.fieldLink "RelicHouseModel" (392 : Nat) "RelicHouseModel" "lapsesIn" "I") ∈ lw_all := lw_g (lw_at lw_m9 25 rfl) rfl
theorem q2045 : (Jvm.Cond.lays "RelicHouseModel" "RelicHouseModel" "thrown" "I") ∈ lw_all := lw_g (lw_at lw_m9 26 rfl) rfl
theorem q2046 : (Jvm.Cond.soleField "RelicHouseModel" "thrown") ∈ lw_all := lw_g (lw_at lw_m9 27 rfl) rfl
theorem q2047 : (Jvm.Cond.lays "RelicHouseModel" "RelicHouseModel" "tape" "I") ∈ lw_all := lw_g (lw_at lw_m9 28 rfl) rfl
theorem q2048 : (Jvm.Cond.soleField "RelicHouseModel" "tape") ∈ lw_all := lw_g (lw_at lw_m9 29 rfl) rfl
theorem q2049 : (Jvm.Cond.lays "RelicHouseModel" "RelicHouseModel" "size" "I") ∈ lw_all := lw_g (lw_at lw_m9 30 rfl) rfl
theorem q2050 : (Jvm.Cond.soleField "RelicHouseModel" "size") ∈ lw_all := lw_g (lw_at lw_m9 31 rfl) rfl
theorem q2051 : (Jvm.Cond.lays "RelicHouseModel" "RelicHouseModel" "place" "I") ∈ lw_all := lw_g (lw_at lw_m9 32 rfl) rfl
theorem q2052 : (Jvm.Cond.soleField "RelicHouseModel" "place") ∈ lw_all := lw_g (lw_at lw_m9 33 rfl) rfl
theorem q2053 : (Jvm.Cond.lays "RelicHouseModel" "RelicHouseModel" "at" "I") ∈ lw_all := lw_g (lw_at lw_m9 34 rfl) rfl
theorem q2054 : (Jvm.Cond.soleField "RelicHouseModel" "at") ∈ lw_all := lw_g (lw_at lw_m9 35 rfl) rfl
theorem q2055 : (Jvm.Cond.lays "RelicHouseModel" "RelicHouseModel" "fault" "I") ∈ lw_all := lw_g (lw_at lw_m9 36 rfl) rfl
theorem q2056 : (Jvm.Cond.soleField "RelicHouseModel" "fault") ∈ lw_all := lw_g (lw_at lw_m9 37 rfl) rfl
theorem q2057 : (Jvm.Cond.lays "RelicHouseModel" "RelicHouseModel" "faultAt" "I") ∈ lw_all := lw_g (lw_at lw_m9 38 rfl) rfl
theorem q2058 : (Jvm.Cond.soleField "RelicHouseModel" "faultAt") ∈ lw_all := lw_g (lw_at lw_m9 39 rfl) rfl
theorem q2059 : (Jvm.Cond.lays "RelicHouseModel" "RelicHouseModel" "clauses" "I") ∈ lw_all := lw_g (lw_at lw_m9 40 rfl) rfl
theorem q2060 : (Jvm.Cond.soleField "RelicHouseModel" "clauses") ∈ lw_all := lw_g (lw_at lw_m9 41 rfl) rfl
theorem q2061 : (Jvm.Cond.lays "RelicHouseModel" "RelicHouseModel" "open" "I") ∈ lw_all := lw_g (lw_at lw_m9 42 rfl) rfl
theorem q2062 : (Jvm.Cond.soleField "RelicHouseModel" "open") ∈ lw_all := lw_g (lw_at lw_m9 43 rfl) rfl
theorem q2063 : (Jvm.Cond.laysFinal "RelicHouseModel" "RelicHouseModel" "fed" "[I") ∈ lw_all := lw_g (lw_at lw_m9 44 rfl) rfl
theorem q2064 : (Jvm.Cond.soleField "RelicHouseModel" "fed") ∈ lw_all := lw_g (lw_at lw_m9 45 rfl) rfl
theorem q2065 : (Jvm.Cond.laysFinal "RelicHouseModel" "RelicHouseModel" "refused" "[I") ∈ lw_all := lw_g (lw_at lw_m9 46 rfl) rfl
theorem q2066 : (Jvm.Cond.soleField "RelicHouseModel" "refused") ∈ lw_all := lw_g (lw_at lw_m9 47 rfl) rfl
theorem q2067 : (Jvm.Cond.laysFinal "RelicHouseModel" "RelicHouseModel" "readTold" "[I") ∈ lw_all := lw_g (lw_at lw_m9 48 rfl) rfl
theorem q2068 : (Jvm.Cond.soleField "RelicHouseModel" "readTold") ∈ lw_all := lw_g (lw_at lw_m9 49 rfl) rfl
theorem q2069 : (Jvm.Cond.laysFinal "RelicHouseModel" "RelicHouseModel" "told" "[I") ∈ lw_all := lw_g (lw_at lw_m9 50 rfl) rfl
theorem q2070 : (Jvm.Cond.soleField "RelicHouseModel" "told") ∈ lw_all := lw_g (lw_at lw_m9 51 rfl) rfl
theorem q2071 : (Jvm.Cond.laysFinal "RelicHouseModel" "RelicHouseModel" "readTempted" "[I") ∈ lw_all := lw_g (lw_at lw_m9 52 rfl) rfl
theorem q2072 : (Jvm.Cond.soleField "RelicHouseModel" "readTempted") ∈ lw_all := lw_g (lw_at lw_m9 53 rfl) rfl
theorem q2073 : (Jvm.Cond.laysFinal "RelicHouseModel" "RelicHouseModel" "tempted" "[I") ∈ lw_all := lw_g (lw_at lw_m9 54 rfl) rfl
theorem q2074 : (Jvm.Cond.soleField "RelicHouseModel" "tempted") ∈ lw_all := lw_g (lw_at lw_m9 55 rfl) rfl
theorem q2075 : (Jvm.Cond.laysFinal "RelicHouseModel" "RelicHouseModel" "readVow" "[I") ∈ lw_all := lw_g (lw_at lw_m9 56 rfl) rfl
theorem q2076 : (Jvm.Cond.soleField "RelicHouseModel" "readVow") ∈ lw_all := lw_g (lw_at lw_m9 57 rfl) rfl
theorem q2077 : (Jvm.Cond.laysFinal "RelicHouseModel" "RelicHouseModel" "vow" "[I") ∈ lw_all := lw_g (lw_at lw_m9 58 rfl) rfl
theorem q2078 : (Jvm.Cond.soleField "RelicHouseModel" "vow") ∈ lw_all := lw_g (lw_at lw_m9 59 rfl) rfl
theorem q2079 : (Jvm.Cond.laysFinal "RelicHouseModel" "RelicHouseModel" "readRelic" "[[I") ∈ lw_all := lw_g (lw_at lw_m9 60 rfl) rfl
theorem q2080 : (Jvm.Cond.soleField "RelicHouseModel" "readRelic") ∈ lw_all := lw_g (lw_at lw_m9 61 rfl) rfl
theorem q2081 : (Jvm.Cond.laysFinal "RelicHouseModel" "RelicHouseModel" "relic" "[[I") ∈ lw_all := lw_g (lw_at lw_m9 62 rfl) rfl
theorem q2082 : (Jvm.Cond.soleField "RelicHouseModel" "relic") ∈ lw_all := lw_g (lw_at lw_m9 63 rfl) rfl
theorem q2083 : (Jvm.Cond.laysFinal "RelicHouseModel" "RelicHouseModel" "readPilgrim" "[[I") ∈ lw_all := lw_g (lw_at lw_m9 64 rfl) rfl
theorem q2084 : (Jvm.Cond.soleField "RelicHouseModel" "readPilgrim") ∈ lw_all := lw_g (lw_at lw_m9 65 rfl) rfl
theorem q2085 : (Jvm.Cond.laysFinal "RelicHouseModel" "RelicHouseModel" "pilgrim" "[[I") ∈ lw_all := lw_g (lw_at lw_m9 66 rfl) rfl
theorem q2086 : (Jvm.Cond.soleField "RelicHouseModel" "pilgrim") ∈ lw_all := lw_g (lw_at lw_m9 67 rfl) rfl
theorem q2087 : (Jvm.Cond.lays "RelicHouseModel" "RelicHouseModel" "lawMany" "I") ∈ lw_all := lw_g (lw_at lw_m9 68 rfl) rfl
theorem q2088 : (Jvm.Cond.soleField "RelicHouseModel" "lawMany") ∈ lw_all := lw_g (lw_at lw_m9 69 rfl) rfl
theorem q2089 : (Jvm.Cond.lays "RelicHouseModel" "RelicHouseModel" "readLawMany" "I") ∈ lw_all := lw_g (lw_at lw_m9 70 rfl) rfl
theorem q2090 : (Jvm.Cond.soleField "RelicHouseModel" "readLawMany") ∈ lw_all := lw_g (lw_at lw_m9 71 rfl) rfl
theorem q2091 : (Jvm.Cond.laysFinal "RelicHouseModel" "RelicHouseModel" "law" "[[I") ∈ lw_all := lw_g (lw_at lw_m9 72 rfl) rfl
theorem q2092 : (Jvm.Cond.soleField "RelicHouseModel" "law") ∈ lw_all := lw_g (lw_at lw_m9 73 rfl) rfl
theorem q2093 : (Jvm.Cond.laysFinal "RelicHouseModel" "RelicHouseModel" "readLaw" "[[I") ∈ lw_all := lw_g (lw_at lw_m9 74 rfl) rfl
theorem q2094 : (Jvm.Cond.soleField "RelicHouseModel" "readLaw") ∈ lw_all := lw_g (lw_at lw_m9 75 rfl) rfl
theorem q2095 : (Jvm.Cond.laysFinal "RelicHouseModel" "RelicHouseModel" "line" "[[I") ∈ lw_all := lw_g (lw_at lw_m9 76 rfl) rfl
theorem q2096 : (Jvm.Cond.soleField "RelicHouseModel" "line") ∈ lw_all := lw_g (lw_at lw_m9 77 rfl) rfl
theorem q2097 : (Jvm.Cond.laysFinal "RelicHouseModel" "RelicHouseModel" "readLine" "[[I") ∈ lw_all := lw_g (lw_at lw_m9 78 rfl) rfl
theorem q2098 : (Jvm.Cond.soleField "RelicHouseModel" "readLine") ∈ lw_all := lw_g (lw_at lw_m9 79 rfl) rfl
theorem q2099 : (Jvm.Cond.laysFinal "RelicHouseModel" "RelicHouseModel" "stack" "[I") ∈ lw_all := lw_g (lw_at lw_m9 80 rfl) rfl
theorem q2100 : (Jvm.Cond.soleField "RelicHouseModel" "stack") ∈ lw_all := lw_g (lw_at lw_m9 81 rfl) rfl
theorem q2101 : (Jvm.Cond.laysFinal "RelicHouseModel" "RelicHouseModel" "known" "[I") ∈ lw_all := lw_g (lw_at lw_m9 82 rfl) rfl
theorem q2102 : (Jvm.Cond.soleField "RelicHouseModel" "known") ∈ lw_all := lw_g (lw_at lw_m9 83 rfl) rfl
theorem q2103 : (Jvm.Cond.laysFinal "RelicHouseModel" "RelicHouseModel" "step" "[[I") ∈ lw_all := lw_g (lw_at lw_m9 84 rfl) rfl
theorem q2104 : (Jvm.Cond.soleField "RelicHouseModel" "step") ∈ lw_all := lw_g (lw_at lw_m9 85 rfl) rfl
theorem q2105 : (Jvm.Cond.lays "RelicHouseModel" "RelicHouseModel" "steps" "I") ∈ lw_all := lw_g (lw_at lw_m9 86 rfl) rfl
theorem q2106 : (Jvm.Cond.soleField "RelicHouseModel" "steps") ∈ lw_all := lw_g (lw_at lw_m9 87 rfl) rfl
theorem q2107 : (Jvm.Cond.laysFinal "RelicHouseModel" "RelicHouseModel" "now" "[I") ∈ lw_all := lw_g (lw_at lw_m9 88 rfl) rfl
theorem q2108 : (Jvm.Cond.soleField "RelicHouseModel" "now") ∈ lw_all := lw_g (lw_at lw_m9 89 rfl) rfl
theorem q2109 : (Jvm.Cond.laysFinal "RelicHouseModel" "RelicHouseModel" "trial" "[I") ∈ lw_all := lw_g (lw_at lw_m9 90 rfl) rfl
theorem q2110 : (Jvm.Cond.soleField "RelicHouseModel" "trial") ∈ lw_all := lw_g (lw_at lw_m9 91 rfl) rfl
theorem q2111 : (Jvm.Cond.laysFinal "RelicHouseModel" "RelicHouseModel" "before" "[[I") ∈ lw_all := lw_g (lw_at lw_m9 92 rfl) rfl
theorem q2112 : (Jvm.Cond.soleField "RelicHouseModel" "before") ∈ lw_all := lw_g (lw_at lw_m9 93 rfl) rfl
theorem q2113 : (Jvm.Cond.laysFinal "RelicHouseModel" "RelicHouseModel" "kept" "[[I") ∈ lw_all := lw_g (lw_at lw_m9 94 rfl) rfl
theorem q2114 : (Jvm.Cond.soleField "RelicHouseModel" "kept") ∈ lw_all := lw_g (lw_at lw_m9 95 rfl) rfl
theorem q2115 : (Jvm.Cond.lays "RelicHouseModel" "RelicHouseModel" "lines" "I") ∈ lw_all := lw_g (lw_at lw_m9 96 rfl) rfl
theorem q2116 : (Jvm.Cond.soleField "RelicHouseModel" "lines") ∈ lw_all := lw_g (lw_at lw_m9 97 rfl) rfl
theorem q2117 : (Jvm.Cond.lays "RelicHouseModel" "RelicHouseModel" "works" "I") ∈ lw_all := lw_g (lw_at lw_m9 98 rfl) rfl
theorem q2118 : (Jvm.Cond.soleField "RelicHouseModel" "works") ∈ lw_all := lw_g (lw_at lw_m9 99 rfl) rfl
theorem q2119 : (Jvm.Cond.lays "RelicHouseModel" "RelicHouseModel" "refusedSteps" "I") ∈ lw_all := lw_g (lw_at lw_m9 100 rfl) rfl
theorem q2120 : (Jvm.Cond.soleField "RelicHouseModel" "refusedSteps") ∈ lw_all := lw_g (lw_at lw_m9 101 rfl) rfl
theorem q2121 : (Jvm.Cond.lays "RelicHouseModel" "RelicHouseModel" "images" "I") ∈ lw_all := lw_g (lw_at lw_m9 102 rfl) rfl
theorem q2122 : (Jvm.Cond.soleField "RelicHouseModel" "images") ∈ lw_all := lw_g (lw_at lw_m9 103 rfl) rfl
theorem q2123 : (Jvm.Cond.lays "RelicHouseModel" "RelicHouseModel" "spot" "I") ∈ lw_all := lw_g (lw_at lw_m9 104 rfl) rfl
theorem q2124 : (Jvm.Cond.soleField "RelicHouseModel" "spot") ∈ lw_all := lw_g (lw_at lw_m9 105 rfl) rfl
theorem q2125 : (Jvm.Cond.lays "RelicHouseModel" "RelicHouseModel" "begun" "I") ∈ lw_all := lw_g (lw_at lw_m9 106 rfl) rfl
theorem q2126 : (Jvm.Cond.soleField "RelicHouseModel" "begun") ∈ lw_all := lw_g (lw_at lw_m9 107 rfl) rfl
theorem q2127 : (Jvm.Cond.lays "RelicHouseModel" "RelicHouseModel" "doneSteps" "I") ∈ lw_all := lw_g (lw_at lw_m9 108 rfl) rfl
theorem q2128 : (Jvm.Cond.soleField "RelicHouseModel" "doneSteps") ∈ lw_all := lw_g (lw_at lw_m9 109 rfl) rfl
theorem q2129 : (Jvm.Cond.laysFinal "RelicHouseModel" "RelicHouseModel" "by" "[I") ∈ lw_all := lw_g (lw_at lw_m9 110 rfl) rfl
theorem q2130 : (Jvm.Cond.soleField "RelicHouseModel" "by") ∈ lw_all := lw_g (lw_at lw_m9 111 rfl) rfl
theorem q2131 : (Jvm.Cond.laysFinal "RelicHouseModel" "RelicHouseModel" "bestBy" "[I") ∈ lw_all := lw_g (lw_at lw_m9 112 rfl) rfl
theorem q2132 : (Jvm.Cond.soleField "RelicHouseModel" "bestBy") ∈ lw_all := lw_g (lw_at lw_m9 113 rfl) rfl
theorem q2133 : (Jvm.Cond.laysFinal "RelicHouseModel" "RelicHouseModel" "ableTo" "[I") ∈ lw_all := lw_g (lw_at lw_m9 114 rfl) rfl
theorem q2134 : (Jvm.Cond.soleField "RelicHouseModel" "ableTo") ∈ lw_all := lw_g (lw_at lw_m9 115 rfl) rfl
theorem q2135 : (Jvm.Cond.laysFinal "RelicHouseModel" "RelicHouseModel" "curable" "[I") ∈ lw_all := lw_g (lw_at lw_m9 116 rfl) rfl
theorem q2136 : (Jvm.Cond.soleField "RelicHouseModel" "curable") ∈ lw_all := lw_g (lw_at lw_m9 117 rfl) rfl
theorem q2137 : (Jvm.Cond.lays "RelicHouseModel" "RelicHouseModel" "mostCured" "I") ∈ lw_all := lw_g (lw_at lw_m9 118 rfl) rfl
theorem q2138 : (Jvm.Cond.soleField "RelicHouseModel" "mostCured") ∈ lw_all := lw_g (lw_at lw_m9 119 rfl) rfl
theorem q2139 : (Jvm.Cond.lays "RelicHouseModel" "RelicHouseModel" "lots" "I") ∈ lw_all := lw_g (lw_at lw_m9 120 rfl) rfl
theorem q2140 : (Jvm.Cond.soleField "RelicHouseModel" "lots") ∈ lw_all := lw_g (lw_at lw_m9 121 rfl) rfl
theorem q2141 : (Jvm.Cond.lays "RelicHouseModel" "RelicHouseModel" "lapsesIn" "I") ∈ lw_all := lw_g (lw_at lw_m9 122 rfl) rfl
theorem q2142 : (Jvm.Cond.soleField "RelicHouseModel" "lapsesIn") ∈ lw_all := lw_g (lw_at lw_m9 123 rfl) rfl
theorem q2143 : (Jvm.Cond.superclass "RelicHouseModel" "java/lang/Object") ∈ lw_all := lw_g (lw_at lw_m9 124 rfl) rfl
theorem q2145 : (Jvm.Cond.instanceMethod ({ cls := "RelicHouseModel", name := "thrown", desc := "()I" } : Jvm.MethodName)) ∈ lw_all := lw_g (lw_at lw_m9 126 rfl) rfl
theorem q2146 : (Jvm.Cond.selects "RelicHouseModel" ({ cls := "RelicHouseModel", name := "thrown", desc := "()I" } : Jvm.MethodName) ({ cls := "RelicHouseModel", name := "thrown", desc := "()I" } : Jvm.MethodName)) ∈ lw_all := lw_g (lw_at lw_m9 127 rfl) rfl
theorem q2147 : (Jvm.Cond.code ({ cls := "RelicHouseModel", name := "thrown", desc := "()I" } : Jvm.MethodName) prog_33_method_3_code (1 : Nat) (Option.some Jvm.ClassFile.FieldType.int)) ∈ lw_all := lw_g (lw_at lw_m9 128 rfl) rfl
theorem q2149 : (Jvm.Cond.instanceMethod ({ cls := "RelicHouseModel", name := "feed", desc := "(IIIII)I" } : Jvm.MethodName)) ∈ lw_all := lw_g (lw_at lw_m9 130 rfl) rfl
theorem q2150 : (Jvm.Cond.selects "RelicHouseModel" ({ cls := "RelicHouseModel", name := "feed", desc := "(IIIII)I" } : Jvm.MethodName) ({ cls := "RelicHouseModel", name := "feed", desc := "(IIIII)I" } : Jvm.MethodName)) ∈ lw_all := lw_g (lw_at lw_m9 131 rfl) rfl
theorem q2151 : (Jvm.Cond.code ({ cls := "RelicHouseModel", name := "feed", desc := "(IIIII)I" } : Jvm.MethodName) prog_33_method_9_code (8 : Nat) (Option.some Jvm.ClassFile.FieldType.int)) ∈ lw_all := lw_g (lw_at lw_m9 132 rfl) rfl
theorem q2153 : (Jvm.Cond.instanceMethod ({ cls := "RelicHouseModel", name := "house", desc := "(I)I" } : Jvm.MethodName)) ∈ lw_all := lw_g (lw_at lw_m9 134 rfl) rfl
theorem q2154 : (Jvm.Cond.selects "RelicHouseModel" ({ cls := "RelicHouseModel", name := "house", desc := "(I)I" } : Jvm.MethodName) ({ cls := "RelicHouseModel", name := "house", desc := "(I)I" } : Jvm.MethodName)) ∈ lw_all := lw_g (lw_at lw_m9 135 rfl) rfl
theorem q2155 : (Jvm.Cond.code ({ cls := "RelicHouseModel", name := "house", desc := "(I)I" } : Jvm.MethodName) prog_33_method_30_code (2 : Nat) (Option.some Jvm.ClassFile.FieldType.int)) ∈ lw_all := lw_g (lw_at lw_m9 136 rfl) rfl
theorem q2156 : (Jvm.Cond.methodLink "RelicHouseModel" (137 : Nat) ({ cls := "RelicHouseModel", name := "in", desc := "(III)Z" } : Jvm.MethodName)) ∈ lw_all := lw_g (lw_at lw_m9 137 rfl) rfl
theorem q2157 : (Jvm.Cond.static ({ cls := "RelicHouseModel", name := "in", desc := "(III)Z" } : Jvm.MethodName)) ∈ lw_all := lw_g (lw_at lw_m9 138 rfl) rfl
theorem q2158 : (Jvm.Cond.code ({ cls := "RelicHouseModel", name := "in", desc := "(III)Z" } : Jvm.MethodName) prog_33_method_5_code (3 : Nat) (Option.some Jvm.ClassFile.FieldType.boolean)) ∈ lw_all := lw_g (lw_at lw_m9 139 rfl) rfl
theorem q2159 : (Jvm.Cond.methodLink "RelicHouseModel" (183 : Nat) ({ cls := "RelicHouseModel", name := "bad", desc := "(ZII)Z" } : Jvm.MethodName)) ∈ lw_all := lw_g (lw_at lw_m9 140 rfl) rfl
theorem q2160 : (Jvm.Cond.privateMethod ({ cls := "RelicHouseModel", name := "bad", desc := "(ZII)Z" } : Jvm.MethodName)) ∈ lw_tbl := lw_at lw_m9 141 rfl
theorem q2161 : (Jvm.Cond.instanceMethod ({ cls := "RelicHouseModel", name := "bad", desc := "(ZII)Z" } : Jvm.MethodName)) ∈ lw_all := lw_g (lw_at lw_m9 142 rfl) rfl
theorem q2162 : (Jvm.Cond.code ({ cls := "RelicHouseModel", name := "bad", desc := "(ZII)Z" } : Jvm.MethodName) prog_33_method_4_code (4 : Nat) (Option.some Jvm.ClassFile.FieldType.boolean)) ∈ lw_all := lw_g (lw_at lw_m9 143 rfl) rfl
theorem q2163 : (Jvm.Cond.methodLink "RelicHouseModel" (187 : Nat) ({ cls := "RelicHouseModel", name := "starts", desc := "(I)V" } : Jvm.MethodName)) ∈ lw_all := lw_g (lw_at lw_m9 144 rfl) rfl
theorem q2164 : (Jvm.Cond.privateMethod ({ cls := "RelicHouseModel", name := "starts", desc := "(I)V" } : Jvm.MethodName)) ∈ lw_tbl := lw_at lw_m9 145 rfl
theorem q2165 : (Jvm.Cond.instanceMethod ({ cls := "RelicHouseModel", name := "starts", desc := "(I)V" } : Jvm.MethodName)) ∈ lw_all := lw_g (lw_at lw_m9 146 rfl) rfl
theorem q2166 : (Jvm.Cond.code ({ cls := "RelicHouseModel", name := "starts", desc := "(I)V" } : Jvm.MethodName) prog_33_method_23_code (2 : Nat) (Option.none : Option Jvm.ClassFile.FieldType)) ∈ lw_all := lw_g (lw_at lw_m9 147 rfl) rfl
theorem q2167 : (Jvm.Cond.methodLink "RelicHouseModel" (125 : Nat) ({ cls := "RelicHouseModel", name := "blanks", desc := "()V" } : Jvm.MethodName)) ∈ lw_all := lw_g (lw_at lw_m9 148 rfl) rfl
theorem q2168 : (Jvm.Cond.privateMethod ({ cls := "RelicHouseModel", name := "blanks", desc := "()V" } : Jvm.MethodName)) ∈ lw_tbl := lw_at lw_m9 149 rfl
theorem q2169 : (Jvm.Cond.instanceMethod ({ cls := "RelicHouseModel", name := "blanks", desc := "()V" } : Jvm.MethodName)) ∈ lw_all := lw_g (lw_at lw_m9 150 rfl) rfl
theorem q2170 : (Jvm.Cond.code ({ cls := "RelicHouseModel", name := "blanks", desc := "()V" } : Jvm.MethodName) prog_33_method_11_code (1 : Nat) (Option.none : Option Jvm.ClassFile.FieldType)) ∈ lw_all := lw_g (lw_at lw_m9 151 rfl) rfl
theorem q2171 : (Jvm.Cond.methodLink "RelicHouseModel" (115 : Nat) ({ cls := "RelicHouseModel", name := "byteAt", desc := "(I)I" } : Jvm.MethodName)) ∈ lw_all := lw_g (lw_at lw_m9 152 rfl) rfl
theorem q2172 : (Jvm.Cond.privateMethod ({ cls := "RelicHouseModel", name := "byteAt", desc := "(I)I" } : Jvm.MethodName)) ∈ lw_tbl := lw_at lw_m9 153 rfl
theorem q2173 : (Jvm.Cond.instanceMethod ({ cls := "RelicHouseModel", name := "byteAt", desc := "(I)I" } : Jvm.MethodName)) ∈ lw_all := lw_g (lw_at lw_m9 154 rfl) rfl
theorem q2174 : (Jvm.Cond.code ({ cls := "RelicHouseModel", name := "byteAt", desc := "(I)I" } : Jvm.MethodName) prog_33_method_10_code (2 : Nat) (Option.some Jvm.ClassFile.FieldType.int)) ∈ lw_all := lw_g (lw_at lw_m9 155 rfl) rfl
theorem q2175 : (Jvm.Cond.methodLink "RelicHouseModel" (190 : Nat) ({ cls := "RelicHouseModel", name := "clause", desc := "()V" } : Jvm.MethodName)) ∈ lw_all := lw_g (lw_at lw_m9 156 rfl) rfl
theorem q2176 : (Jvm.Cond.privateMethod ({ cls := "RelicHouseModel", name := "clause", desc := "()V" } : Jvm.MethodName)) ∈ lw_tbl := lw_at lw_m9 157 rfl
theorem q2177 : (Jvm.Cond.instanceMethod ({ cls := "RelicHouseModel", name := "clause", desc := "()V" } : Jvm.MethodName)) ∈ lw_all := lw_g (lw_at lw_m9 158 rfl) rfl
theorem q2178 : (Jvm.Cond.code ({ cls := "RelicHouseModel", name := "clause", desc := "()V" } : Jvm.MethodName) prog_33_method_29_code (5 : Nat) (Option.none : Option Jvm.ClassFile.FieldType)) ∈ lw_all := lw_g (lw_at lw_m9 159 rfl) rfl
theorem q2179 : (Jvm.Cond.methodLink "RelicHouseModel" (169 : Nat) ({ cls := "RelicHouseModel", name := "kindHere", desc := "()I" } : Jvm.MethodName)) ∈ lw_all := lw_g (lw_at lw_m9 160 rfl) rfl
theorem q2180 : (Jvm.Cond.privateMethod ({ cls := "RelicHouseModel", name := "kindHere", desc := "()I" } : Jvm.MethodName)) ∈ lw_tbl := lw_at lw_m9 161 rfl
theorem q2181 : (Jvm.Cond.instanceMethod ({ cls := "RelicHouseModel", name := "kindHere", desc := "()I" } : Jvm.MethodName)) ∈ lw_all := lw_g (lw_at lw_m9 162 rfl) rfl
theorem q2182 : (Jvm.Cond.code ({ cls := "RelicHouseModel", name := "kindHere", desc := "()I" } : Jvm.MethodName) prog_33_method_27_code (1 : Nat) (Option.some Jvm.ClassFile.FieldType.int)) ∈ lw_all := lw_g (lw_at lw_m9 163 rfl) rfl
theorem q2183 : (Jvm.Cond.methodLink "RelicHouseModel" (152 : Nat) ({ cls := "RelicHouseModel", name := "isWord", desc := "(IIIIII)Z" } : Jvm.MethodName)) ∈ lw_all := lw_g (lw_at lw_m9 164 rfl) rfl
theorem q2184 : (Jvm.Cond.privateMethod ({ cls := "RelicHouseModel", name := "isWord", desc := "(IIIIII)Z" } : Jvm.MethodName)) ∈ lw_tbl := lw_at lw_m9 165 rfl
theorem q2185 : (Jvm.Cond.instanceMethod ({ cls := "RelicHouseModel", name := "isWord", desc := "(IIIIII)Z" } : Jvm.MethodName)) ∈ lw_all := lw_g (lw_at lw_m9 166 rfl) rfl
theorem q2186 : (Jvm.Cond.code ({ cls := "RelicHouseModel", name := "isWord", desc := "(IIIIII)Z" } : Jvm.MethodName) prog_33_method_18_code (7 : Nat) (Option.some Jvm.ClassFile.FieldType.boolean)) ∈ lw_all := lw_g (lw_at lw_m9 167 rfl) rfl
theorem q2187 : (Jvm.Cond.methodLink "RelicHouseModel" (144 : Nat) ({ cls := "RelicHouseModel", name := "wordHere", desc := "()I" } : Jvm.MethodName)) ∈ lw_all := lw_g (lw_at lw_m9 168 rfl) rfl
theorem q2188 : (Jvm.Cond.privateMethod ({ cls := "RelicHouseModel", name := "wordHere", desc := "()I" } : Jvm.MethodName)) ∈ lw_tbl := lw_at lw_m9 169 rfl
theorem q2189 : (Jvm.Cond.instanceMethod ({ cls := "RelicHouseModel", name := "wordHere", desc := "()I" } : Jvm.MethodName)) ∈ lw_all := lw_g (lw_at lw_m9 170 rfl) rfl
theorem q2190 : (Jvm.Cond.code ({ cls := "RelicHouseModel", name := "wordHere", desc := "()I" } : Jvm.MethodName) prog_33_method_16_code (3 : Nat) (Option.some Jvm.ClassFile.FieldType.int)) ∈ lw_all := lw_g (lw_at lw_m9 171 rfl) rfl
theorem q2191 : (Jvm.Cond.methodLink "RelicHouseModel" (141 : Nat) ({ cls := "RelicHouseModel", name := "isSmall", desc := "(I)Z" } : Jvm.MethodName)) ∈ lw_all := lw_g (lw_at lw_m9 172 rfl) rfl
theorem q2192 : (Jvm.Cond.static ({ cls := "RelicHouseModel", name := "isSmall", desc := "(I)Z" } : Jvm.MethodName)) ∈ lw_all := lw_g (lw_at lw_m9 173 rfl) rfl
theorem q2193 : (Jvm.Cond.code ({ cls := "RelicHouseModel", name := "isSmall", desc := "(I)Z" } : Jvm.MethodName) prog_33_method_14_code (1 : Nat) (Option.some Jvm.ClassFile.FieldType.boolean)) ∈ lw_all := lw_g (lw_at lw_m9 174 rfl) rfl
theorem q2194 : (Jvm.Cond.methodLink "RelicHouseModel" (148 : Nat) ({ cls := "RelicHouseModel", name := "six", desc := "(IIIIII)I" } : Jvm.MethodName)) ∈ lw_all := lw_g (lw_at lw_m9 175 rfl) rfl
theorem q2195 : (Jvm.Cond.static ({ cls := "RelicHouseModel", name := "six", desc := "(IIIIII)I" } : Jvm.MethodName)) ∈ lw_all := lw_g (lw_at lw_m9 176 rfl) rfl
theorem q2196 : (Jvm.Cond.code ({ cls := "RelicHouseModel", name := "six", desc := "(IIIIII)I" } : Jvm.MethodName) prog_33_method_17_code (7 : Nat) (Option.some Jvm.ClassFile.FieldType.int)) ∈ lw_all := lw_g (lw_at lw_m9 177 rfl) rfl
theorem q2197 : (Jvm.Cond.methodLink "RelicHouseModel" (165 : Nat) ({ cls := "RelicHouseModel", name := "isPilgrim", desc := "()Z" } : Jvm.MethodName)) ∈ lw_all := lw_g (lw_at lw_m9 178 rfl) rfl
theorem q2198 : (Jvm.Cond.privateMethod ({ cls := "RelicHouseModel", name := "isPilgrim", desc := "()Z" } : Jvm.MethodName)) ∈ lw_tbl := lw_at lw_m9 179 rfl
theorem q2199 : (Jvm.Cond.instanceMethod ({ cls := "RelicHouseModel", name := "isPilgrim", desc := "()Z" } : Jvm.MethodName)) ∈ lw_all := lw_g (lw_at lw_m9 180 rfl) rfl
theorem q2200 : (Jvm.Cond.code ({ cls := "RelicHouseModel", name := "isPilgrim", desc := "()Z" } : Jvm.MethodName) prog_33_method_25_code (3 : Nat) (Option.some Jvm.ClassFile.FieldType.boolean)) ∈ lw_all := lw_g (lw_at lw_m9 181 rfl) rfl
theorem q2201 : (Jvm.Cond.methodLink "RelicHouseModel" (132 : Nat) ({ cls := "RelicHouseModel", name := "wrong", desc := "(II)V" } : Jvm.MethodName)) ∈ lw_all := lw_g (lw_at lw_m9 182 rfl) rfl
theorem q2202 : (Jvm.Cond.privateMethod ({ cls := "RelicHouseModel", name := "wrong", desc := "(II)V" } : Jvm.MethodName)) ∈ lw_tbl := lw_at lw_m9 183 rfl
theorem q2203 : (Jvm.Cond.instanceMethod ({ cls := "RelicHouseModel", name := "wrong", desc := "(II)V" } : Jvm.MethodName)) ∈ lw_all := lw_g (lw_at lw_m9 184 rfl) rfl
theorem q2204 : (Jvm.Cond.code ({ cls := "RelicHouseModel", name := "wrong", desc := "(II)V" } : Jvm.MethodName) prog_33_method_12_code (3 : Nat) (Option.none : Option Jvm.ClassFile.FieldType)) ∈ lw_all := lw_g (lw_at lw_m9 185 rfl) rfl
theorem q2205 : (Jvm.Cond.methodLink "RelicHouseModel" (172 : Nat) ({ cls := "RelicHouseModel", name := "mostOf", desc := "(I)I" } : Jvm.MethodName)) ∈ lw_all := lw_g (lw_at lw_m9 186 rfl) rfl
theorem q2206 : (Jvm.Cond.static ({ cls := "RelicHouseModel", name := "mostOf", desc := "(I)I" } : Jvm.MethodName)) ∈ lw_all := lw_g (lw_at lw_m9 187 rfl) rfl
theorem q2207 : (Jvm.Cond.code ({ cls := "RelicHouseModel", name := "mostOf", desc := "(I)I" } : Jvm.MethodName) prog_33_method_28_code (1 : Nat) (Option.some Jvm.ClassFile.FieldType.int)) ∈ lw_all := lw_g (lw_at lw_m9 188 rfl) rfl
theorem q2208 : (Jvm.Cond.methodLink "RelicHouseModel" (156 : Nat) ({ cls := "RelicHouseModel", name := "skipWord", desc := "()V" } : Jvm.MethodName)) ∈ lw_all := lw_g (lw_at lw_m9 189 rfl) rfl
theorem q2209 : (Jvm.Cond.privateMethod ({ cls := "RelicHouseModel", name := "skipWord", desc := "()V" } : Jvm.MethodName)) ∈ lw_tbl := lw_at lw_m9 190 rfl
theorem q2210 : (Jvm.Cond.instanceMethod ({ cls := "RelicHouseModel", name := "skipWord", desc := "()V" } : Jvm.MethodName)) ∈ lw_all := lw_g (lw_at lw_m9 191 rfl) rfl
theorem q2211 : (Jvm.Cond.code ({ cls := "RelicHouseModel", name := "skipWord", desc := "()V" } : Jvm.MethodName) prog_33_method_19_code (1 : Nat) (Option.none : Option Jvm.ClassFile.FieldType)) ∈ lw_all := lw_g (lw_at lw_m9 192 rfl) rfl
theorem q2212 : (Jvm.Cond.methodLink "RelicHouseModel" (175 : Nat) ({ cls := "RelicHouseModel", name := "number", desc := "(II)I" } : Jvm.MethodName)) ∈ lw_all := lw_g (lw_at lw_m9 193 rfl) rfl
theorem q2213 : (Jvm.Cond.privateMethod ({ cls := "RelicHouseModel", name := "number", desc := "(II)I" } : Jvm.MethodName)) ∈ lw_tbl := lw_at lw_m9 194 rfl
theorem q2214 : (Jvm.Cond.instanceMethod ({ cls := "RelicHouseModel", name := "number", desc := "(II)I" } : Jvm.MethodName)) ∈ lw_all := lw_g (lw_at lw_m9 195 rfl) rfl
theorem q2215 : (Jvm.Cond.code ({ cls := "RelicHouseModel", name := "number", desc := "(II)I" } : Jvm.MethodName) prog_33_method_15_code (5 : Nat) (Option.some Jvm.ClassFile.FieldType.int)) ∈ lw_all := lw_g (lw_at lw_m9 196 rfl) rfl
theorem q2216 : (Jvm.Cond.methodLink "RelicHouseModel" (128 : Nat) ({ cls := "RelicHouseModel", name := "isDigit", desc := "(I)Z" } : Jvm.MethodName)) ∈ lw_all := lw_g (lw_at lw_m9 197 rfl) rfl
theorem q2217 : (Jvm.Cond.static ({ cls := "RelicHouseModel", name := "isDigit", desc := "(I)Z" } : Jvm.MethodName)) ∈ lw_all := lw_g (lw_at lw_m9 198 rfl) rfl
theorem q2218 : (Jvm.Cond.code ({ cls := "RelicHouseModel", name := "isDigit", desc := "(I)Z" } : Jvm.MethodName) prog_33_method_13_code (1 : Nat) (Option.some Jvm.ClassFile.FieldType.boolean)) ∈ lw_all := lw_g (lw_at lw_m9 199 rfl) rfl
theorem q2219 : (Jvm.Cond.constant "RelicHouseModel" (136 : Nat) (100000 : Int32)) ∈ lw_all := lw_g (lw_at lw_m9 200 rfl) rfl
theorem q2220 : (Jvm.Cond.methodLink "RelicHouseModel" (179 : Nat) ({ cls := "RelicHouseModel", name := "sign", desc := "(I)V" } : Jvm.MethodName)) ∈ lw_all := lw_g (lw_at lw_m9 201 rfl) rfl
theorem q2221 : (Jvm.Cond.privateMethod ({ cls := "RelicHouseModel", name := "sign", desc := "(I)V" } : Jvm.MethodName)) ∈ lw_tbl := lw_at lw_m9 202 rfl
theorem q2222 : (Jvm.Cond.instanceMethod ({ cls := "RelicHouseModel", name := "sign", desc := "(I)V" } : Jvm.MethodName)) ∈ lw_all := lw_g (lw_at lw_m9 203 rfl) rfl
theorem q2223 : (Jvm.Cond.code ({ cls := "RelicHouseModel", name := "sign", desc := "(I)V" } : Jvm.MethodName) prog_33_method_21_code (2 : Nat) (Option.none : Option Jvm.ClassFile.FieldType)) ∈ lw_all := lw_g (lw_at lw_m9 204 rfl) rfl
theorem q2224 : (Jvm.Cond.methodLink "RelicHouseModel" (193 : Nat) ({ cls := "RelicHouseModel", name := "ends", desc := "()I" } : Jvm.MethodName)) ∈ lw_all := lw_g (lw_at lw_m9 205 rfl) rfl
theorem q2225 : (Jvm.Cond.privateMethod ({ cls := "RelicHouseModel", name := "ends", desc := "()I" } : Jvm.MethodName)) ∈ lw_tbl := lw_at lw_m9 206 rfl
theorem q2226 : (Jvm.Cond.instanceMethod ({ cls := "RelicHouseModel", name := "ends", desc := "()I" } : Jvm.MethodName)) ∈ lw_all := lw_g (lw_at lw_m9 207 rfl) rfl
theorem q2227 : (Jvm.Cond.code ({ cls := "RelicHouseModel", name := "ends", desc := "()I" } : Jvm.MethodName) prog_33_method_24_code (1 : Nat) (Option.some Jvm.ClassFile.FieldType.int)) ∈ lw_all := lw_g (lw_at lw_m9 208 rfl) rfl
theorem q2229 : (Jvm.Cond.instanceMethod ({ cls := "RelicHouseModel", name := "law", desc := "(I)I" } : Jvm.MethodName)) ∈ lw_all := lw_g (lw_at lw_m9 210 rfl) rfl
theorem q2230 : (Jvm.Cond.selects "RelicHouseModel" ({ cls := "RelicHouseModel", name := "law", desc := "(I)I" } : Jvm.MethodName) ({ cls := "RelicHouseModel", name := "law", desc := "(I)I" } : Jvm.MethodName)) ∈ lw_all := lw_g (lw_at lw_m9 211 rfl) rfl
theorem q2231 : (Jvm.Cond.code ({ cls := "RelicHouseModel", name := "law", desc := "(I)I" } : Jvm.MethodName) prog_33_method_40_code (2 : Nat) (Option.some Jvm.ClassFile.FieldType.int)) ∈ lw_all := lw_g (lw_at lw_m9 212 rfl) rfl
theorem q2232 : (Jvm.Cond.methodLink "RelicHouseModel" (239 : Nat) ({ cls := "RelicHouseModel", name := "sum", desc := "()V" } : Jvm.MethodName)) ∈ lw_all := lw_g (lw_at lw_m9 213 rfl) rfl
theorem q2233 : (Jvm.Cond.privateMethod ({ cls := "RelicHouseModel", name := "sum", desc := "()V" } : Jvm.MethodName)) ∈ lw_tbl := lw_at lw_m9 214 rfl
theorem q2234 : (Jvm.Cond.instanceMethod ({ cls := "RelicHouseModel", name := "sum", desc := "()V" } : Jvm.MethodName)) ∈ lw_all := lw_g (lw_at lw_m9 215 rfl) rfl
theorem q2235 : (Jvm.Cond.code ({ cls := "RelicHouseModel", name := "sum", desc := "()V" } : Jvm.MethodName) prog_33_method_36_code (2 : Nat) (Option.none : Option Jvm.ClassFile.FieldType)) ∈ lw_all := lw_g (lw_at lw_m9 216 rfl) rfl
theorem q2236 : (Jvm.Cond.methodLink "RelicHouseModel" (218 : Nat) ({ cls := "RelicHouseModel", name := "product", desc := "()V" } : Jvm.MethodName)) ∈ lw_all := lw_g (lw_at lw_m9 217 rfl) rfl
theorem q2237 : (Jvm.Cond.privateMethod ({ cls := "RelicHouseModel", name := "product", desc := "()V" } : Jvm.MethodName)) ∈ lw_tbl := lw_at lw_m9 218 rfl
theorem q2238 : (Jvm.Cond.instanceMethod ({ cls := "RelicHouseModel", name := "product", desc := "()V" } : Jvm.MethodName)) ∈ lw_all := lw_g (lw_at lw_m9 219 rfl) rfl
theorem q2239 : (Jvm.Cond.code ({ cls := "RelicHouseModel", name := "product", desc := "()V" } : Jvm.MethodName) prog_33_method_37_code (2 : Nat) (Option.none : Option Jvm.ClassFile.FieldType)) ∈ lw_all := lw_g (lw_at lw_m9 220 rfl) rfl
theorem q2240 : (Jvm.Cond.methodLink "RelicHouseModel" (227 : Nat) ({ cls := "RelicHouseModel", name := "one", desc := "()V" } : Jvm.MethodName)) ∈ lw_all := lw_g (lw_at lw_m9 221 rfl) rfl
theorem q2241 : (Jvm.Cond.privateMethod ({ cls := "RelicHouseModel", name := "one", desc := "()V" } : Jvm.MethodName)) ∈ lw_tbl := lw_at lw_m9 222 rfl
theorem q2242 : (Jvm.Cond.instanceMethod ({ cls := "RelicHouseModel", name := "one", desc := "()V" } : Jvm.MethodName)) ∈ lw_all := lw_g (lw_at lw_m9 223 rfl) rfl
theorem q2243 : (Jvm.Cond.code ({ cls := "RelicHouseModel", name := "one", desc := "()V" } : Jvm.MethodName) prog_33_method_39_code (3 : Nat) (Option.none : Option Jvm.ClassFile.FieldType)) ∈ lw_all := lw_g (lw_at lw_m9 224 rfl) rfl
theorem q2244 : (Jvm.Cond.methodLink "RelicHouseModel" (236 : Nat) ({ cls := "RelicHouseModel", name := "opensOne", desc := "()Z" } : Jvm.MethodName)) ∈ lw_all := lw_g (lw_at lw_m9 225 rfl) rfl
theorem q2245 : (Jvm.Cond.privateMethod ({ cls := "RelicHouseModel", name := "opensOne", desc := "()Z" } : Jvm.MethodName)) ∈ lw_tbl := lw_at lw_m9 226 rfl
theorem q2246 : (Jvm.Cond.instanceMethod ({ cls := "RelicHouseModel", name := "opensOne", desc := "()Z" } : Jvm.MethodName)) ∈ lw_all := lw_g (lw_at lw_m9 227 rfl) rfl
theorem q2247 : (Jvm.Cond.code ({ cls := "RelicHouseModel", name := "opensOne", desc := "()Z" } : Jvm.MethodName) prog_33_method_35_code (1 : Nat) (Option.some Jvm.ClassFile.FieldType.boolean)) ∈ lw_all := lw_g (lw_at lw_m9 228 rfl) rfl
theorem q2248 : (Jvm.Cond.methodLink "RelicHouseModel" (224 : Nat) ({ cls := "RelicHouseModel", name := "notes", desc := "(II)V" } : Jvm.MethodName)) ∈ lw_all := lw_g (lw_at lw_m9 229 rfl) rfl
theorem q2249 : (Jvm.Cond.privateMethod ({ cls := "RelicHouseModel", name := "notes", desc := "(II)V" } : Jvm.MethodName)) ∈ lw_tbl := lw_at lw_m9 230 rfl
theorem q2250 : (Jvm.Cond.instanceMethod ({ cls := "RelicHouseModel", name := "notes", desc := "(II)V" } : Jvm.MethodName)) ∈ lw_all := lw_g (lw_at lw_m9 231 rfl) rfl
theorem q2251 : (Jvm.Cond.code ({ cls := "RelicHouseModel", name := "notes", desc := "(II)V" } : Jvm.MethodName) prog_33_method_34_code (3 : Nat) (Option.none : Option Jvm.ClassFile.FieldType)) ∈ lw_all := lw_g (lw_at lw_m9 232 rfl) rfl
theorem q2252 : (Jvm.Cond.methodLink "RelicHouseModel" (242 : Nat) ({ cls := "RelicHouseModel", name := "knownHere", desc := "()I" } : Jvm.MethodName)) ∈ lw_all := lw_g (lw_at lw_m9 233 rfl) rfl
theorem q2253 : (Jvm.Cond.privateMethod ({ cls := "RelicHouseModel", name := "knownHere", desc := "()I" } : Jvm.MethodName)) ∈ lw_tbl := lw_at lw_m9 234 rfl
theorem q2254 : (Jvm.Cond.instanceMethod ({ cls := "RelicHouseModel", name := "knownHere", desc := "()I" } : Jvm.MethodName)) ∈ lw_all := lw_g (lw_at lw_m9 235 rfl) rfl
theorem q2255 : (Jvm.Cond.code ({ cls := "RelicHouseModel", name := "knownHere", desc := "()I" } : Jvm.MethodName) prog_33_method_38_code (1 : Nat) (Option.some Jvm.ClassFile.FieldType.int)) ∈ lw_all := lw_g (lw_at lw_m9 236 rfl) rfl
theorem q2256 : (Jvm.Cond.methodLink "RelicHouseModel" (230 : Nat) ({ cls := "RelicHouseModel", name := "takes", desc := "(IIIIII)Z" } : Jvm.MethodName)) ∈ lw_all := lw_g (lw_at lw_m9 237 rfl) rfl
theorem q2257 : (Jvm.Cond.privateMethod ({ cls := "RelicHouseModel", name := "takes", desc := "(IIIIII)Z" } : Jvm.MethodName)) ∈ lw_tbl := lw_at lw_m9 238 rfl
theorem q2258 : (Jvm.Cond.instanceMethod ({ cls := "RelicHouseModel", name := "takes", desc := "(IIIIII)Z" } : Jvm.MethodName)) ∈ lw_all := lw_g (lw_at lw_m9 239 rfl) rfl
theorem q2259 : (Jvm.Cond.code ({ cls := "RelicHouseModel", name := "takes", desc := "(IIIIII)Z" } : Jvm.MethodName) prog_33_method_20_code (8 : Nat) (Option.some Jvm.ClassFile.FieldType.boolean)) ∈ lw_all := lw_g (lw_at lw_m10 0 rfl) rfl
theorem q2260 : (Jvm.Cond.methodLink "RelicHouseModel" (233 : Nat) ({ cls := "RelicHouseModel", name := "isTempted", desc := "()Z" } : Jvm.MethodName)) ∈ lw_all := lw_g (lw_at lw_m10 1 rfl) rfl
theorem q2261 : (Jvm.Cond.privateMethod ({ cls := "RelicHouseModel", name := "isTempted", desc := "()Z" } : Jvm.MethodName)) ∈ lw_tbl := lw_at lw_m10 2 rfl
theorem q2262 : (Jvm.Cond.instanceMethod ({ cls := "RelicHouseModel", name := "isTempted", desc := "()Z" } : Jvm.MethodName)) ∈ lw_all := lw_g (lw_at lw_m10 3 rfl) rfl
theorem q2263 : (Jvm.Cond.code ({ cls := "RelicHouseModel", name := "isTempted", desc := "()Z" } : Jvm.MethodName) prog_33_method_26_code (4 : Nat) (Option.some Jvm.ClassFile.FieldType.boolean)) ∈ lw_all := lw_g (lw_at lw_m10 4 rfl) rfl
theorem q2264 : (Jvm.Cond.methodLink "RelicHouseModel" (221 : Nat) ({ cls := "RelicHouseModel", name := "takesSign", desc := "(I)Z" } : Jvm.MethodName)) ∈ lw_all := lw_g (lw_at lw_m10 5 rfl) rfl
theorem q2265 : (Jvm.Cond.privateMethod ({ cls := "RelicHouseModel", name := "takesSign", desc := "(I)Z" } : Jvm.MethodName)) ∈ lw_tbl := lw_at lw_m10 6 rfl
theorem q2266 : (Jvm.Cond.instanceMethod ({ cls := "RelicHouseModel", name := "takesSign", desc := "(I)Z" } : Jvm.MethodName)) ∈ lw_all := lw_g (lw_at lw_m10 7 rfl) rfl
theorem q2267 : (Jvm.Cond.code ({ cls := "RelicHouseModel", name := "takesSign", desc := "(I)Z" } : Jvm.MethodName) prog_33_method_22_code (3 : Nat) (Option.some Jvm.ClassFile.FieldType.boolean)) ∈ lw_all := lw_g (lw_at lw_m10 8 rfl) rfl
theorem q2269 : (Jvm.Cond.instanceMethod ({ cls := "RelicHouseModel", name := "seen", desc := "(I)I" } : Jvm.MethodName)) ∈ lw_all := lw_g (lw_at lw_m10 10 rfl) rfl
theorem q2270 : (Jvm.Cond.selects "RelicHouseModel" ({ cls := "RelicHouseModel", name := "seen", desc := "(I)I" } : Jvm.MethodName) ({ cls := "RelicHouseModel", name := "seen", desc := "(I)I" } : Jvm.MethodName)) ∈ lw_all := lw_g (lw_at lw_m10 11 rfl) rfl
theorem q2271 : (Jvm.Cond.code ({ cls := "RelicHouseModel", name := "seen", desc := "(I)I" } : Jvm.MethodName) prog_33_method_45_code (7 : Nat) (Option.some Jvm.ClassFile.FieldType.int)) ∈ lw_all := lw_g (lw_at lw_m10 12 rfl) rfl
theorem q2272 : (Jvm.Cond.methodLink "RelicHouseModel" (263 : Nat) ({ cls := "RelicHouseModel", name := "has", desc := "(II)Z" } : Jvm.MethodName)) ∈ lw_all := lw_g (lw_at lw_m10 13 rfl) rfl
theorem q2273 : (Jvm.Cond.static ({ cls := "RelicHouseModel", name := "has", desc := "(II)Z" } : Jvm.MethodName)) ∈ lw_all := lw_g (lw_at lw_m10 14 rfl) rfl
theorem q2274 : (Jvm.Cond.code ({ cls := "RelicHouseModel", name := "has", desc := "(II)Z" } : Jvm.MethodName) prog_33_method_8_code (2 : Nat) (Option.some Jvm.ClassFile.FieldType.boolean)) ∈ lw_all := lw_g (lw_at lw_m10 15 rfl) rfl
theorem q2276 : (Jvm.Cond.instanceMethod ({ cls := "RelicHouseModel", name := "fault", desc := "()I" } : Jvm.MethodName)) ∈ lw_all := lw_g (lw_at lw_m10 17 rfl) rfl
theorem q2277 : (Jvm.Cond.selects "RelicHouseModel" ({ cls := "RelicHouseModel", name := "fault", desc := "()I" } : Jvm.MethodName) ({ cls := "RelicHouseModel", name := "fault", desc := "()I" } : Jvm.MethodName)) ∈ lw_all := lw_g (lw_at lw_m10 18 rfl) rfl
theorem q2278 : (Jvm.Cond.code ({ cls := "RelicHouseModel", name := "fault", desc := "()I" } : Jvm.MethodName) prog_33_method_46_code (1 : Nat) (Option.some Jvm.ClassFile.FieldType.int)) ∈ lw_all := lw_g (lw_at lw_m10 19 rfl) rfl
theorem q2280 : (Jvm.Cond.instanceMethod ({ cls := "RelicHouseModel", name := "work", desc := "(I)I" } : Jvm.MethodName)) ∈ lw_all := lw_g (lw_at lw_m10 21 rfl) rfl
theorem q2281 : (Jvm.Cond.selects "RelicHouseModel" ({ cls := "RelicHouseModel", name := "work", desc := "(I)I" } : Jvm.MethodName) ({ cls := "RelicHouseModel", name := "work", desc := "(I)I" } : Jvm.MethodName)) ∈ lw_all := lw_g (lw_at lw_m10 22 rfl) rfl
theorem q2282 : (Jvm.Cond.code ({ cls := "RelicHouseModel", name := "work", desc := "(I)I" } : Jvm.MethodName) prog_33_method_61_code (2 : Nat) (Option.some Jvm.ClassFile.FieldType.int)) ∈ lw_all := lw_g (lw_at lw_m10 23 rfl) rfl
theorem q2283 : (Jvm.Cond.methodLink "RelicHouseModel" (260 : Nat) ({ cls := "RelicHouseModel", name := "readsStep", desc := "()V" } : Jvm.MethodName)) ∈ lw_all := lw_g (lw_at lw_m10 24 rfl) rfl
theorem q2284 : (Jvm.Cond.privateMethod ({ cls := "RelicHouseModel", name := "readsStep", desc := "()V" } : Jvm.MethodName)) ∈ lw_tbl := lw_at lw_m10 25 rfl
theorem q2285 : (Jvm.Cond.instanceMethod ({ cls := "RelicHouseModel", name := "readsStep", desc := "()V" } : Jvm.MethodName)) ∈ lw_all := lw_g (lw_at lw_m10 26 rfl) rfl
theorem q2286 : (Jvm.Cond.code ({ cls := "RelicHouseModel", name := "readsStep", desc := "()V" } : Jvm.MethodName) prog_33_method_44_code (3 : Nat) (Option.none : Option Jvm.ClassFile.FieldType)) ∈ lw_all := lw_g (lw_at lw_m10 27 rfl) rfl
theorem q2287 : (Jvm.Cond.methodLink "RelicHouseModel" (254 : Nat) ({ cls := "RelicHouseModel", name := "stepHere", desc := "()I" } : Jvm.MethodName)) ∈ lw_all := lw_g (lw_at lw_m10 28 rfl) rfl
theorem q2288 : (Jvm.Cond.privateMethod ({ cls := "RelicHouseModel", name := "stepHere", desc := "()I" } : Jvm.MethodName)) ∈ lw_tbl := lw_at lw_m10 29 rfl
theorem q2289 : (Jvm.Cond.instanceMethod ({ cls := "RelicHouseModel", name := "stepHere", desc := "()I" } : Jvm.MethodName)) ∈ lw_all := lw_g (lw_at lw_m10 30 rfl) rfl
theorem q2290 : (Jvm.Cond.code ({ cls := "RelicHouseModel", name := "stepHere", desc := "()I" } : Jvm.MethodName) prog_33_method_43_code (1 : Nat) (Option.some Jvm.ClassFile.FieldType.int)) ∈ lw_all := lw_g (lw_at lw_m10 31 rfl) rfl
theorem q2291 : (Jvm.Cond.methodLink "RelicHouseModel" (325 : Nat) ({ cls := "RelicHouseModel", name := "copies", desc := "([I[I)V" } : Jvm.MethodName)) ∈ lw_all := lw_g (lw_at lw_m10 32 rfl) rfl
theorem q2292 : (Jvm.Cond.static ({ cls := "RelicHouseModel", name := "copies", desc := "([I[I)V" } : Jvm.MethodName)) ∈ lw_all := lw_g (lw_at lw_m10 33 rfl) rfl
theorem q2293 : (Jvm.Cond.code ({ cls := "RelicHouseModel", name := "copies", desc := "([I[I)V" } : Jvm.MethodName) prog_33_method_32_code (3 : Nat) (Option.none : Option Jvm.ClassFile.FieldType)) ∈ lw_all := lw_g (lw_at lw_m10 34 rfl) rfl
theorem q2294 : (Jvm.Cond.methodLink "RelicHouseModel" (315 : Nat) ({ cls := "RelicHouseModel", name := "goes", desc := "(II)V" } : Jvm.MethodName)) ∈ lw_all := lw_g (lw_at lw_m10 35 rfl) rfl
theorem q2295 : (Jvm.Cond.privateMethod ({ cls := "RelicHouseModel", name := "goes", desc := "(II)V" } : Jvm.MethodName)) ∈ lw_tbl := lw_at lw_m10 36 rfl
theorem q2296 : (Jvm.Cond.instanceMethod ({ cls := "RelicHouseModel", name := "goes", desc := "(II)V" } : Jvm.MethodName)) ∈ lw_all := lw_g (lw_at lw_m10 37 rfl) rfl
theorem q2297 : (Jvm.Cond.code ({ cls := "RelicHouseModel", name := "goes", desc := "(II)V" } : Jvm.MethodName) prog_33_method_60_code (5 : Nat) (Option.none : Option Jvm.ClassFile.FieldType)) ∈ lw_all := lw_g (lw_at lw_m10 38 rfl) rfl
theorem q2298 : (Jvm.Cond.methodLink "RelicHouseModel" (318 : Nat) ({ cls := "RelicHouseModel", name := "does", desc := "([I[I)Z" } : Jvm.MethodName)) ∈ lw_all := lw_g (lw_at lw_m10 39 rfl) rfl
theorem q2299 : (Jvm.Cond.privateMethod ({ cls := "RelicHouseModel", name := "does", desc := "([I[I)Z" } : Jvm.MethodName)) ∈ lw_tbl := lw_at lw_m10 40 rfl
theorem q2300 : (Jvm.Cond.instanceMethod ({ cls := "RelicHouseModel", name := "does", desc := "([I[I)Z" } : Jvm.MethodName)) ∈ lw_all := lw_g (lw_at lw_m10 41 rfl) rfl
theorem q2301 : (Jvm.Cond.code ({ cls := "RelicHouseModel", name := "does", desc := "([I[I)Z" } : Jvm.MethodName) prog_33_method_59_code (5 : Nat) (Option.some Jvm.ClassFile.FieldType.boolean)) ∈ lw_all := lw_g (lw_at lw_m10 42 rfl) rfl
theorem q2302 : (Jvm.Cond.methodLink "RelicHouseModel" (267 : Nat) ({ cls := "RelicHouseModel", name := "isKept", desc := "([II)Z" } : Jvm.MethodName)) ∈ lw_all := lw_g (lw_at lw_m10 43 rfl) rfl
theorem q2303 : (Jvm.Cond.static ({ cls := "RelicHouseModel", name := "isKept", desc := "([II)Z" } : Jvm.MethodName)) ∈ lw_all := lw_g (lw_at lw_m10 44 rfl) rfl
theorem q2304 : (Jvm.Cond.code ({ cls := "RelicHouseModel", name := "isKept", desc := "([II)Z" } : Jvm.MethodName) prog_33_method_47_code (2 : Nat) (Option.some Jvm.ClassFile.FieldType.boolean)) ∈ lw_all := lw_g (lw_at lw_m10 45 rfl) rfl
theorem q2305 : (Jvm.Cond.methodLink "RelicHouseModel" (302 : Nat) ({ cls := "RelicHouseModel", name := "lapses", desc := "([II)Z" } : Jvm.MethodName)) ∈ lw_all := lw_g (lw_at lw_m10 46 rfl) rfl
theorem q2306 : (Jvm.Cond.privateMethod ({ cls := "RelicHouseModel", name := "lapses", desc := "([II)Z" } : Jvm.MethodName)) ∈ lw_tbl := lw_at lw_m10 47 rfl
theorem q2307 : (Jvm.Cond.instanceMethod ({ cls := "RelicHouseModel", name := "lapses", desc := "([II)Z" } : Jvm.MethodName)) ∈ lw_all := lw_g (lw_at lw_m10 48 rfl) rfl
theorem q2308 : (Jvm.Cond.code ({ cls := "RelicHouseModel", name := "lapses", desc := "([II)Z" } : Jvm.MethodName) prog_33_method_56_code (4 : Nat) (Option.some Jvm.ClassFile.FieldType.boolean)) ∈ lw_all := lw_g (lw_at lw_m10 49 rfl) rfl
theorem q2309 : (Jvm.Cond.methodLink "RelicHouseModel" (296 : Nat) ({ cls := "RelicHouseModel", name := "canLapse", desc := "([II)Z" } : Jvm.MethodName)) ∈ lw_all := lw_g (lw_at lw_m10 50 rfl) rfl
theorem q2310 : (Jvm.Cond.privateMethod ({ cls := "RelicHouseModel", name := "canLapse", desc := "([II)Z" } : Jvm.MethodName)) ∈ lw_tbl := lw_at lw_m10 51 rfl
theorem q2311 : (Jvm.Cond.instanceMethod ({ cls := "RelicHouseModel", name := "canLapse", desc := "([II)Z" } : Jvm.MethodName)) ∈ lw_all := lw_g (lw_at lw_m10 52 rfl) rfl
theorem q2312 : (Jvm.Cond.code ({ cls := "RelicHouseModel", name := "canLapse", desc := "([II)Z" } : Jvm.MethodName) prog_33_method_55_code (3 : Nat) (Option.some Jvm.ClassFile.FieldType.boolean)) ∈ lw_all := lw_g (lw_at lw_m10 53 rfl) rfl
theorem q2313 : (Jvm.Cond.methodLink "RelicHouseModel" (274 : Nat) ({ cls := "RelicHouseModel", name := "keptOf", desc := "([II)I" } : Jvm.MethodName)) ∈ lw_all := lw_g (lw_at lw_m10 54 rfl) rfl
theorem q2314 : (Jvm.Cond.privateMethod ({ cls := "RelicHouseModel", name := "keptOf", desc := "([II)I" } : Jvm.MethodName)) ∈ lw_tbl := lw_at lw_m10 55 rfl
theorem q2315 : (Jvm.Cond.instanceMethod ({ cls := "RelicHouseModel", name := "keptOf", desc := "([II)I" } : Jvm.MethodName)) ∈ lw_all := lw_g (lw_at lw_m10 56 rfl) rfl
theorem q2316 : (Jvm.Cond.code ({ cls := "RelicHouseModel", name := "keptOf", desc := "([II)I" } : Jvm.MethodName) prog_33_method_48_code (5 : Nat) (Option.some Jvm.ClassFile.FieldType.int)) ∈ lw_all := lw_g (lw_at lw_m10 57 rfl) rfl
theorem q2317 : (Jvm.Cond.methodLink "RelicHouseModel" (305 : Nat) ({ cls := "RelicHouseModel", name := "cures", desc := "([III)Z" } : Jvm.MethodName)) ∈ lw_all := lw_g (lw_at lw_m10 58 rfl) rfl
theorem q2318 : (Jvm.Cond.privateMethod ({ cls := "RelicHouseModel", name := "cures", desc := "([III)Z" } : Jvm.MethodName)) ∈ lw_tbl := lw_at lw_m10 59 rfl
theorem q2319 : (Jvm.Cond.instanceMethod ({ cls := "RelicHouseModel", name := "cures", desc := "([III)Z" } : Jvm.MethodName)) ∈ lw_all := lw_g (lw_at lw_m10 60 rfl) rfl
theorem q2320 : (Jvm.Cond.code ({ cls := "RelicHouseModel", name := "cures", desc := "([III)Z" } : Jvm.MethodName) prog_33_method_57_code (4 : Nat) (Option.some Jvm.ClassFile.FieldType.boolean)) ∈ lw_all := lw_g (lw_at lw_m10 61 rfl) rfl
theorem q2321 : (Jvm.Cond.methodLink "RelicHouseModel" (299 : Nat) ({ cls := "RelicHouseModel", name := "canCure", desc := "([III)Z" } : Jvm.MethodName)) ∈ lw_all := lw_g (lw_at lw_m10 62 rfl) rfl
theorem q2322 : (Jvm.Cond.privateMethod ({ cls := "RelicHouseModel", name := "canCure", desc := "([III)Z" } : Jvm.MethodName)) ∈ lw_tbl := lw_at lw_m10 63 rfl
theorem q2323 : (Jvm.Cond.instanceMethod ({ cls := "RelicHouseModel", name := "canCure", desc := "([III)Z" } : Jvm.MethodName)) ∈ lw_all := lw_g (lw_at lw_m10 64 rfl) rfl
theorem q2324 : (Jvm.Cond.code ({ cls := "RelicHouseModel", name := "canCure", desc := "([III)Z" } : Jvm.MethodName) prog_33_method_54_code (4 : Nat) (Option.some Jvm.ClassFile.FieldType.boolean)) ∈ lw_all := lw_g (lw_at lw_m10 65 rfl) rfl
theorem q2325 : (Jvm.Cond.methodLink "RelicHouseModel" (292 : Nat) ({ cls := "RelicHouseModel", name := "isAble", desc := "([III)Z" } : Jvm.MethodName)) ∈ lw_all := lw_g (lw_at lw_m10 66 rfl) rfl
theorem q2326 : (Jvm.Cond.privateMethod ({ cls := "RelicHouseModel", name := "isAble", desc := "([III)Z" } : Jvm.MethodName)) ∈ lw_tbl := lw_at lw_m10 67 rfl
theorem q2327 : (Jvm.Cond.instanceMethod ({ cls := "RelicHouseModel", name := "isAble", desc := "([III)Z" } : Jvm.MethodName)) ∈ lw_all := lw_g (lw_at lw_m10 68 rfl) rfl
theorem q2328 : (Jvm.Cond.code ({ cls := "RelicHouseModel", name := "isAble", desc := "([III)Z" } : Jvm.MethodName) prog_33_method_53_code (4 : Nat) (Option.some Jvm.ClassFile.FieldType.boolean)) ∈ lw_all := lw_g (lw_at lw_m10 69 rfl) rfl
theorem q2329 : (Jvm.Cond.methodLink "RelicHouseModel" (289 : Nat) ({ cls := "RelicHouseModel", name := "power", desc := "([II)I" } : Jvm.MethodName)) ∈ lw_all := lw_g (lw_at lw_m10 70 rfl) rfl
theorem q2330 : (Jvm.Cond.privateMethod ({ cls := "RelicHouseModel", name := "power", desc := "([II)I" } : Jvm.MethodName)) ∈ lw_tbl := lw_at lw_m10 71 rfl
theorem q2331 : (Jvm.Cond.instanceMethod ({ cls := "RelicHouseModel", name := "power", desc := "([II)I" } : Jvm.MethodName)) ∈ lw_all := lw_g (lw_at lw_m10 72 rfl) rfl
theorem q2332 : (Jvm.Cond.code ({ cls := "RelicHouseModel", name := "power", desc := "([II)I" } : Jvm.MethodName) prog_33_method_52_code (3 : Nat) (Option.some Jvm.ClassFile.FieldType.int)) ∈ lw_all := lw_g (lw_at lw_m10 73 rfl) rfl
theorem q2333 : (Jvm.Cond.methodLink "RelicHouseModel" (285 : Nat) ({ cls := "RelicHouseModel", name := "powerOf", desc := "([IIIII)I" } : Jvm.MethodName)) ∈ lw_all := lw_g (lw_at lw_m10 74 rfl) rfl
theorem q2334 : (Jvm.Cond.privateMethod ({ cls := "RelicHouseModel", name := "powerOf", desc := "([IIIII)I" } : Jvm.MethodName)) ∈ lw_tbl := lw_at lw_m10 75 rfl
theorem q2335 : (Jvm.Cond.instanceMethod ({ cls := "RelicHouseModel", name := "powerOf", desc := "([IIIII)I" } : Jvm.MethodName)) ∈ lw_all := lw_g (lw_at lw_m10 76 rfl) rfl
theorem q2336 : (Jvm.Cond.code ({ cls := "RelicHouseModel", name := "powerOf", desc := "([IIIII)I" } : Jvm.MethodName) prog_33_method_51_code (7 : Nat) (Option.some Jvm.ClassFile.FieldType.int)) ∈ lw_all := lw_g (lw_at lw_m10 77 rfl) rfl
theorem q2337 : (Jvm.Cond.methodLink "RelicHouseModel" (278 : Nat) ({ cls := "RelicHouseModel", name := "ones", desc := "(I)I" } : Jvm.MethodName)) ∈ lw_all := lw_g (lw_at lw_m10 78 rfl) rfl
theorem q2338 : (Jvm.Cond.static ({ cls := "RelicHouseModel", name := "ones", desc := "(I)I" } : Jvm.MethodName)) ∈ lw_all := lw_g (lw_at lw_m10 79 rfl) rfl
theorem q2339 : (Jvm.Cond.code ({ cls := "RelicHouseModel", name := "ones", desc := "(I)I" } : Jvm.MethodName) prog_33_method_49_code (3 : Nat) (Option.some Jvm.ClassFile.FieldType.int)) ∈ lw_all := lw_g (lw_at lw_m10 80 rfl) rfl
theorem q2340 : (Jvm.Cond.methodLink "RelicHouseModel" (281 : Nat) ({ cls := "RelicHouseModel", name := "powerBy", desc := "(IIIIIIII)I" } : Jvm.MethodName)) ∈ lw_all := lw_g (lw_at lw_m10 81 rfl) rfl
theorem q2341 : (Jvm.Cond.privateMethod ({ cls := "RelicHouseModel", name := "powerBy", desc := "(IIIIIIII)I" } : Jvm.MethodName)) ∈ lw_tbl := lw_at lw_m10 82 rfl
theorem q2342 : (Jvm.Cond.instanceMethod ({ cls := "RelicHouseModel", name := "powerBy", desc := "(IIIIIIII)I" } : Jvm.MethodName)) ∈ lw_all := lw_g (lw_at lw_m10 83 rfl) rfl
theorem q2343 : (Jvm.Cond.code ({ cls := "RelicHouseModel", name := "powerBy", desc := "(IIIIIIII)I" } : Jvm.MethodName) prog_33_method_50_code (9 : Nat) (Option.some Jvm.ClassFile.FieldType.int)) ∈ lw_all := lw_g (lw_at lw_m10 84 rfl) rfl
theorem q2344 : (Jvm.Cond.methodLink "RelicHouseModel" (271 : Nat) ({ cls := "RelicHouseModel", name := "byLaw", desc := "()I" } : Jvm.MethodName)) ∈ lw_all := lw_g (lw_at lw_m10 85 rfl) rfl
theorem q2345 : (Jvm.Cond.privateMethod ({ cls := "RelicHouseModel", name := "byLaw", desc := "()I" } : Jvm.MethodName)) ∈ lw_tbl := lw_at lw_m10 86 rfl
theorem q2346 : (Jvm.Cond.instanceMethod ({ cls := "RelicHouseModel", name := "byLaw", desc := "()I" } : Jvm.MethodName)) ∈ lw_all := lw_g (lw_at lw_m10 87 rfl) rfl
theorem q2347 : (Jvm.Cond.code ({ cls := "RelicHouseModel", name := "byLaw", desc := "()I" } : Jvm.MethodName) prog_33_method_42_code (3 : Nat) (Option.some Jvm.ClassFile.FieldType.int)) ∈ lw_all := lw_g (lw_at lw_m10 88 rfl) rfl
theorem q2348 : (Jvm.Cond.methodLink "RelicHouseModel" (251 : Nat) ({ cls := "RelicHouseModel", name := "by", desc := "(III)I" } : Jvm.MethodName)) ∈ lw_all := lw_g (lw_at lw_m10 89 rfl) rfl
theorem q2349 : (Jvm.Cond.static ({ cls := "RelicHouseModel", name := "by", desc := "(III)I" } : Jvm.MethodName)) ∈ lw_all := lw_g (lw_at lw_m10 90 rfl) rfl
theorem q2350 : (Jvm.Cond.code ({ cls := "RelicHouseModel", name := "by", desc := "(III)I" } : Jvm.MethodName) prog_33_method_41_code (3 : Nat) (Option.some Jvm.ClassFile.FieldType.int)) ∈ lw_all := lw_g (lw_at lw_m10 91 rfl) rfl
theorem q2351 : (Jvm.Cond.methodLink "RelicHouseModel" (245 : Nat) ({ cls := "RelicHouseModel", name := "less", desc := "(II)I" } : Jvm.MethodName)) ∈ lw_all := lw_g (lw_at lw_m10 92 rfl) rfl
theorem q2352 : (Jvm.Cond.static ({ cls := "RelicHouseModel", name := "less", desc := "(II)I" } : Jvm.MethodName)) ∈ lw_all := lw_g (lw_at lw_m10 93 rfl) rfl
theorem q2353 : (Jvm.Cond.code ({ cls := "RelicHouseModel", name := "less", desc := "(II)I" } : Jvm.MethodName) prog_33_method_6_code (2 : Nat) (Option.some Jvm.ClassFile.FieldType.int)) ∈ lw_all := lw_g (lw_at lw_m10 94 rfl) rfl
theorem q2354 : (Jvm.Cond.methodLink "RelicHouseModel" (248 : Nat) ({ cls := "RelicHouseModel", name := "more", desc := "(II)I" } : Jvm.MethodName)) ∈ lw_all := lw_g (lw_at lw_m10 95 rfl) rfl
theorem q2355 : (Jvm.Cond.static ({ cls := "RelicHouseModel", name := "more", desc := "(II)I" } : Jvm.MethodName)) ∈ lw_all := lw_g (lw_at lw_m10 96 rfl) rfl
theorem q2356 : (Jvm.Cond.code ({ cls := "RelicHouseModel", name := "more", desc := "(II)I" } : Jvm.MethodName) prog_33_method_7_code (2 : Nat) (Option.some Jvm.ClassFile.FieldType.int)) ∈ lw_all := lw_g (lw_at lw_m10 97 rfl) rfl
theorem q2357 : (Jvm.Cond.methodLink "RelicHouseModel" (308 : Nat) ({ cls := "RelicHouseModel", name := "dayEnds", desc := "([I)V" } : Jvm.MethodName)) ∈ lw_all := lw_g (lw_at lw_m10 98 rfl) rfl
theorem q2358 : (Jvm.Cond.privateMethod ({ cls := "RelicHouseModel", name := "dayEnds", desc := "([I)V" } : Jvm.MethodName)) ∈ lw_tbl := lw_at lw_m10 99 rfl
theorem q2359 : (Jvm.Cond.instanceMethod ({ cls := "RelicHouseModel", name := "dayEnds", desc := "([I)V" } : Jvm.MethodName)) ∈ lw_all := lw_g (lw_at lw_m10 100 rfl) rfl
theorem q2360 : (Jvm.Cond.code ({ cls := "RelicHouseModel", name := "dayEnds", desc := "([I)V" } : Jvm.MethodName) prog_33_method_58_code (3 : Nat) (Option.none : Option Jvm.ClassFile.FieldType)) ∈ lw_all := lw_g (lw_at lw_m10 101 rfl) rfl
theorem q2362 : (Jvm.Cond.instanceMethod ({ cls := "RelicHouseModel", name := "undo", desc := "()I" } : Jvm.MethodName)) ∈ lw_all := lw_g (lw_at lw_m10 103 rfl) rfl
theorem q2363 : (Jvm.Cond.selects "RelicHouseModel" ({ cls := "RelicHouseModel", name := "undo", desc := "()I" } : Jvm.MethodName) ({ cls := "RelicHouseModel", name := "undo", desc := "()I" } : Jvm.MethodName)) ∈ lw_all := lw_g (lw_at lw_m10 104 rfl) rfl
theorem q2364 : (Jvm.Cond.code ({ cls := "RelicHouseModel", name := "undo", desc := "()I" } : Jvm.MethodName) prog_33_method_62_code (1 : Nat) (Option.some Jvm.ClassFile.FieldType.int)) ∈ lw_all := lw_g (lw_at lw_m10 105 rfl) rfl
theorem q2366 : (Jvm.Cond.instanceMethod ({ cls := "RelicHouseModel", name := "told", desc := "(I)I" } : Jvm.MethodName)) ∈ lw_all := lw_g (lw_at lw_m10 107 rfl) rfl
theorem q2367 : (Jvm.Cond.selects "RelicHouseModel" ({ cls := "RelicHouseModel", name := "told", desc := "(I)I" } : Jvm.MethodName) ({ cls := "RelicHouseModel", name := "told", desc := "(I)I" } : Jvm.MethodName)) ∈ lw_all := lw_g (lw_at lw_m10 108 rfl) rfl
theorem q2368 : (Jvm.Cond.code ({ cls := "RelicHouseModel", name := "told", desc := "(I)I" } : Jvm.MethodName) prog_33_method_65_code (6 : Nat) (Option.some Jvm.ClassFile.FieldType.int)) ∈ lw_all := lw_g (lw_at lw_m10 109 rfl) rfl
theorem q2369 : (Jvm.Cond.methodLink "RelicHouseModel" (329 : Nat) ({ cls := "RelicHouseModel", name := "curedIn", desc := "([I)I" } : Jvm.MethodName)) ∈ lw_all := lw_g (lw_at lw_m10 110 rfl) rfl
theorem q2370 : (Jvm.Cond.privateMethod ({ cls := "RelicHouseModel", name := "curedIn", desc := "([I)I" } : Jvm.MethodName)) ∈ lw_tbl := lw_at lw_m10 111 rfl
theorem q2371 : (Jvm.Cond.instanceMethod ({ cls := "RelicHouseModel", name := "curedIn", desc := "([I)I" } : Jvm.MethodName)) ∈ lw_all := lw_g (lw_at lw_m10 112 rfl) rfl
theorem q2372 : (Jvm.Cond.code ({ cls := "RelicHouseModel", name := "curedIn", desc := "([I)I" } : Jvm.MethodName) prog_33_method_64_code (4 : Nat) (Option.some Jvm.ClassFile.FieldType.int)) ∈ lw_all := lw_g (lw_at lw_m10 113 rfl) rfl
theorem q2373 : (Jvm.Cond.methodLink "RelicHouseModel" (333 : Nat) ({ cls := "RelicHouseModel", name := "powersIn", desc := "([I)I" } : Jvm.MethodName)) ∈ lw_all := lw_g (lw_at lw_m10 114 rfl) rfl
theorem q2374 : (Jvm.Cond.privateMethod ({ cls := "RelicHouseModel", name := "powersIn", desc := "([I)I" } : Jvm.MethodName)) ∈ lw_tbl := lw_at lw_m10 115 rfl
theorem q2375 : (Jvm.Cond.instanceMethod ({ cls := "RelicHouseModel", name := "powersIn", desc := "([I)I" } : Jvm.MethodName)) ∈ lw_all := lw_g (lw_at lw_m10 116 rfl) rfl
theorem q2376 : (Jvm.Cond.code ({ cls := "RelicHouseModel", name := "powersIn", desc := "([I)I" } : Jvm.MethodName) prog_33_method_63_code (4 : Nat) (Option.some Jvm.ClassFile.FieldType.int)) ∈ lw_all := lw_g (lw_at lw_m10 117 rfl) rfl
theorem q2378 : (Jvm.Cond.instanceMethod ({ cls := "RelicHouseModel", name := "sister", desc := "(II)I" } : Jvm.MethodName)) ∈ lw_all := lw_g (lw_at lw_m10 119 rfl) rfl
theorem q2379 : (Jvm.Cond.selects "RelicHouseModel" ({ cls := "RelicHouseModel", name := "sister", desc := "(II)I" } : Jvm.MethodName) ({ cls := "RelicHouseModel", name := "sister", desc := "(II)I" } : Jvm.MethodName)) ∈ lw_all := lw_g (lw_at lw_m10 120 rfl) rfl
theorem q2380 : (Jvm.Cond.code ({ cls := "RelicHouseModel", name := "sister", desc := "(II)I" } : Jvm.MethodName) prog_33_method_69_code (5 : Nat) (Option.some Jvm.ClassFile.FieldType.int)) ∈ lw_all := lw_g (lw_at lw_m10 121 rfl) rfl
theorem q2381 : (Jvm.Cond.methodLink "RelicHouseModel" (336 : Nat) ({ cls := "RelicHouseModel", name := "isSister", desc := "(I)Z" } : Jvm.MethodName)) ∈ lw_all := lw_g (lw_at lw_m10 122 rfl) rfl
theorem q2382 : (Jvm.Cond.privateMethod ({ cls := "RelicHouseModel", name := "isSister", desc := "(I)Z" } : Jvm.MethodName)) ∈ lw_tbl := lw_at lw_m10 123 rfl
theorem q2383 : (Jvm.Cond.instanceMethod ({ cls := "RelicHouseModel", name := "isSister", desc := "(I)Z" } : Jvm.MethodName)) ∈ lw_all := lw_g (lw_at lw_m10 124 rfl) rfl
theorem q2384 : (Jvm.Cond.code ({ cls := "RelicHouseModel", name := "isSister", desc := "(I)Z" } : Jvm.MethodName) prog_33_method_66_code (2 : Nat) (Option.some Jvm.ClassFile.FieldType.boolean)) ∈ lw_all := lw_g (lw_at lw_m10 125 rfl) rfl
theorem q2386 : (Jvm.Cond.instanceMethod ({ cls := "RelicHouseModel", name := "relic", desc := "(II)I" } : Jvm.MethodName)) ∈ lw_all := lw_g (lw_at lw_m10 127 rfl) rfl
theorem q2387 : (Jvm.Cond.selects "RelicHouseModel" ({ cls := "RelicHouseModel", name := "relic", desc := "(II)I" } : Jvm.MethodName) ({ cls := "RelicHouseModel", name := "relic", desc := "(II)I" } : Jvm.MethodName)) ∈ lw_all := lw_g (lw_at lw_m10 128 rfl) rfl
theorem q2388 : (Jvm.Cond.code ({ cls := "RelicHouseModel", name := "relic", desc := "(II)I" } : Jvm.MethodName) prog_33_method_70_code (5 : Nat) (Option.some Jvm.ClassFile.FieldType.int)) ∈ lw_all := lw_g (lw_at lw_m10 129 rfl) rfl
theorem q2389 : (Jvm.Cond.methodLink "RelicHouseModel" (339 : Nat) ({ cls := "RelicHouseModel", name := "isRelic", desc := "(I)Z" } : Jvm.MethodName)) ∈ lw_all := lw_g (lw_at lw_m10 130 rfl) rfl
theorem q2390 : (Jvm.Cond.privateMethod ({ cls := "RelicHouseModel", name := "isRelic", desc := "(I)Z" } : Jvm.MethodName)) ∈ lw_tbl := lw_at lw_m10 131 rfl
theorem q2391 : (Jvm.Cond.instanceMethod ({ cls := "RelicHouseModel", name := "isRelic", desc := "(I)Z" } : Jvm.MethodName)) ∈ lw_all := lw_g (lw_at lw_m10 132 rfl) rfl
theorem q2392 : (Jvm.Cond.code ({ cls := "RelicHouseModel", name := "isRelic", desc := "(I)Z" } : Jvm.MethodName) prog_33_method_67_code (2 : Nat) (Option.some Jvm.ClassFile.FieldType.boolean)) ∈ lw_all := lw_g (lw_at lw_m10 133 rfl) rfl
theorem q2394 : (Jvm.Cond.instanceMethod ({ cls := "RelicHouseModel", name := "pilgrim", desc := "(II)I" } : Jvm.MethodName)) ∈ lw_all := lw_g (lw_at lw_m10 135 rfl) rfl
theorem q2395 : (Jvm.Cond.selects "RelicHouseModel" ({ cls := "RelicHouseModel", name := "pilgrim", desc := "(II)I" } : Jvm.MethodName) ({ cls := "RelicHouseModel", name := "pilgrim", desc := "(II)I" } : Jvm.MethodName)) ∈ lw_all := lw_g (lw_at lw_m10 136 rfl) rfl
theorem q2396 : (Jvm.Cond.code ({ cls := "RelicHouseModel", name := "pilgrim", desc := "(II)I" } : Jvm.MethodName) prog_33_method_71_code (5 : Nat) (Option.some Jvm.ClassFile.FieldType.int)) ∈ lw_all := lw_g (lw_at lw_m10 137 rfl) rfl
theorem q2397 : (Jvm.Cond.methodLink "RelicHouseModel" (342 : Nat) ({ cls := "RelicHouseModel", name := "isPerson", desc := "(I)Z" } : Jvm.MethodName)) ∈ lw_all := lw_g (lw_at lw_m10 138 rfl) rfl
theorem q2398 : (Jvm.Cond.privateMethod ({ cls := "RelicHouseModel", name := "isPerson", desc := "(I)Z" } : Jvm.MethodName)) ∈ lw_tbl := lw_at lw_m10 139 rfl
theorem q2399 : (Jvm.Cond.instanceMethod ({ cls := "RelicHouseModel", name := "isPerson", desc := "(I)Z" } : Jvm.MethodName)) ∈ lw_all := lw_g (lw_at lw_m10 140 rfl) rfl
theorem q2400 : (Jvm.Cond.code ({ cls := "RelicHouseModel", name := "isPerson", desc := "(I)Z" } : Jvm.MethodName) prog_33_method_68_code (2 : Nat) (Option.some Jvm.ClassFile.FieldType.boolean)) ∈ lw_all := lw_g (lw_at lw_m10 141 rfl) rfl
theorem q2402 : (Jvm.Cond.instanceMethod ({ cls := "RelicHouseModel", name := "would", desc := "(IIIIIIII)I" } : Jvm.MethodName)) ∈ lw_all := lw_g (lw_at lw_m10 143 rfl) rfl
theorem q2403 : (Jvm.Cond.selects "RelicHouseModel" ({ cls := "RelicHouseModel", name := "would", desc := "(IIIIIIII)I" } : Jvm.MethodName) ({ cls := "RelicHouseModel", name := "would", desc := "(IIIIIIII)I" } : Jvm.MethodName)) ∈ lw_all := lw_g (lw_at lw_m10 144 rfl) rfl
theorem q2404 : (Jvm.Cond.code ({ cls := "RelicHouseModel", name := "would", desc := "(IIIIIIII)I" } : Jvm.MethodName) prog_33_method_72_code (9 : Nat) (Option.some Jvm.ClassFile.FieldType.int)) ∈ lw_all := lw_g (lw_at lw_m10 145 rfl) rfl
theorem q2406 : (Jvm.Cond.instanceMethod ({ cls := "RelicHouseModel", name := "can", desc := "(II)Z" } : Jvm.MethodName)) ∈ lw_all := lw_g (lw_at lw_m10 147 rfl) rfl
theorem q2407 : (Jvm.Cond.selects "RelicHouseModel" ({ cls := "RelicHouseModel", name := "can", desc := "(II)Z" } : Jvm.MethodName) ({ cls := "RelicHouseModel", name := "can", desc := "(II)Z" } : Jvm.MethodName)) ∈ lw_all := lw_g (lw_at lw_m10 148 rfl) rfl
theorem q2408 : (Jvm.Cond.code ({ cls := "RelicHouseModel", name := "can", desc := "(II)Z" } : Jvm.MethodName) prog_33_method_73_code (3 : Nat) (Option.some Jvm.ClassFile.FieldType.boolean)) ∈ lw_all := lw_g (lw_at lw_m10 149 rfl) rfl
theorem q2410 : (Jvm.Cond.instanceMethod ({ cls := "RelicHouseModel", name := "when", desc := "(II)I" } : Jvm.MethodName)) ∈ lw_all := lw_g (lw_at lw_m10 151 rfl) rfl
theorem q2411 : (Jvm.Cond.selects "RelicHouseModel" ({ cls := "RelicHouseModel", name := "when", desc := "(II)I" } : Jvm.MethodName) ({ cls := "RelicHouseModel", name := "when", desc := "(II)I" } : Jvm.MethodName)) ∈ lw_all := lw_g (lw_at lw_m10 152 rfl) rfl
theorem q2412 : (Jvm.Cond.code ({ cls := "RelicHouseModel", name := "when", desc := "(II)I" } : Jvm.MethodName) prog_33_method_74_code (4 : Nat) (Option.some Jvm.ClassFile.FieldType.int)) ∈ lw_all := lw_g (lw_at lw_m10 153 rfl) rfl
theorem q2414 : (Jvm.Cond.instanceMethod ({ cls := "RelicHouseModel", name := "ahead", desc := "(III)I" } : Jvm.MethodName)) ∈ lw_all := lw_g (lw_at lw_m10 155 rfl) rfl
theorem q2415 : (Jvm.Cond.selects "RelicHouseModel" ({ cls := "RelicHouseModel", name := "ahead", desc := "(III)I" } : Jvm.MethodName) ({ cls := "RelicHouseModel", name := "ahead", desc := "(III)I" } : Jvm.MethodName)) ∈ lw_all := lw_g (lw_at lw_m10 156 rfl) rfl
theorem q2416 : (Jvm.Cond.code ({ cls := "RelicHouseModel", name := "ahead", desc := "(III)I" } : Jvm.MethodName) prog_33_method_75_code (5 : Nat) (Option.some Jvm.ClassFile.FieldType.int)) ∈ lw_all := lw_g (lw_at lw_m10 157 rfl) rfl
theorem q2418 : (Jvm.Cond.instanceMethod ({ cls := "RelicHouseModel", name := "hopeless", desc := "(I)I" } : Jvm.MethodName)) ∈ lw_all := lw_g (lw_at lw_m10 159 rfl) rfl
theorem q2419 : (Jvm.Cond.selects "RelicHouseModel" ({ cls := "RelicHouseModel", name := "hopeless", desc := "(I)I" } : Jvm.MethodName) ({ cls := "RelicHouseModel", name := "hopeless", desc := "(I)I" } : Jvm.MethodName)) ∈ lw_all := lw_g (lw_at lw_m10 160 rfl) rfl
theorem q2420 : (Jvm.Cond.code ({ cls := "RelicHouseModel", name := "hopeless", desc := "(I)I" } : Jvm.MethodName) prog_33_method_76_code (5 : Nat) (Option.some Jvm.ClassFile.FieldType.int)) ∈ lw_all := lw_g (lw_at lw_m10 161 rfl) rfl
theorem q2422 : (Jvm.Cond.instanceMethod ({ cls := "RelicHouseModel", name := "match", desc := "()I" } : Jvm.MethodName)) ∈ lw_all := lw_g (lw_at lw_m10 163 rfl) rfl
theorem q2423 : (Jvm.Cond.selects "RelicHouseModel" ({ cls := "RelicHouseModel", name := "match", desc := "()I" } : Jvm.MethodName) ({ cls := "RelicHouseModel", name := "match", desc := "()I" } : Jvm.MethodName)) ∈ lw_all := lw_g (lw_at lw_m10 164 rfl) rfl
theorem q2424 : (Jvm.Cond.code ({ cls := "RelicHouseModel", name := "match", desc := "()I" } : Jvm.MethodName) prog_33_method_79_code (1 : Nat) (Option.some Jvm.ClassFile.FieldType.int)) ∈ lw_all := lw_g (lw_at lw_m10 165 rfl) rfl
theorem q2425 : (Jvm.Cond.methodLink "RelicHouseModel" (352 : Nat) ({ cls := "RelicHouseModel", name := "matches", desc := "()V" } : Jvm.MethodName)) ∈ lw_all := lw_g (lw_at lw_m10 166 rfl) rfl
theorem q2426 : (Jvm.Cond.privateMethod ({ cls := "RelicHouseModel", name := "matches", desc := "()V" } : Jvm.MethodName)) ∈ lw_tbl := lw_at lw_m10 167 rfl
theorem q2427 : (Jvm.Cond.instanceMethod ({ cls := "RelicHouseModel", name := "matches", desc := "()V" } : Jvm.MethodName)) ∈ lw_all := lw_g (lw_at lw_m10 168 rfl) rfl
theorem q2428 : (Jvm.Cond.code ({ cls := "RelicHouseModel", name := "matches", desc := "()V" } : Jvm.MethodName) prog_33_method_78_code (3 : Nat) (Option.none : Option Jvm.ClassFile.FieldType)) ∈ lw_all := lw_g (lw_at lw_m10 169 rfl) rfl
theorem q2429 : (Jvm.Cond.methodLink "RelicHouseModel" (348 : Nat) ({ cls := "RelicHouseModel", name := "matchesFrom", desc := "(III)V" } : Jvm.MethodName)) ∈ lw_all := lw_g (lw_at lw_m10 170 rfl) rfl
theorem q2430 : (Jvm.Cond.privateMethod ({ cls := "RelicHouseModel", name := "matchesFrom", desc := "(III)V" } : Jvm.MethodName)) ∈ lw_tbl := lw_at lw_m10 171 rfl
theorem q2431 : (Jvm.Cond.instanceMethod ({ cls := "RelicHouseModel", name := "matchesFrom", desc := "(III)V" } : Jvm.MethodName)) ∈ lw_all := lw_g (lw_at lw_m10 172 rfl) rfl
theorem q2432 : (Jvm.Cond.code ({ cls := "RelicHouseModel", name := "matchesFrom", desc := "(III)V" } : Jvm.MethodName) prog_33_method_77_code (5 : Nat) (Option.none : Option Jvm.ClassFile.FieldType)) ∈ lw_all := lw_g (lw_at lw_m10 173 rfl) rfl
theorem q2434 : (Jvm.Cond.instanceMethod ({ cls := "RelicHouseModel", name := "matched", desc := "(I)I" } : Jvm.MethodName)) ∈ lw_all := lw_g (lw_at lw_m10 175 rfl) rfl
theorem q2435 : (Jvm.Cond.selects "RelicHouseModel" ({ cls := "RelicHouseModel", name := "matched", desc := "(I)I" } : Jvm.MethodName) ({ cls := "RelicHouseModel", name := "matched", desc := "(I)I" } : Jvm.MethodName)) ∈ lw_all := lw_g (lw_at lw_m10 176 rfl) rfl
theorem q2436 : (Jvm.Cond.code ({ cls := "RelicHouseModel", name := "matched", desc := "(I)I" } : Jvm.MethodName) prog_33_method_80_code (2 : Nat) (Option.some Jvm.ClassFile.FieldType.int)) ∈ lw_all := lw_g (lw_at lw_m10 177 rfl) rfl
theorem q2438 : (Jvm.Cond.instanceMethod ({ cls := "RelicHouseModel", name := "lapsed", desc := "(I)I" } : Jvm.MethodName)) ∈ lw_all := lw_g (lw_at lw_m10 179 rfl) rfl
theorem q2439 : (Jvm.Cond.selects "RelicHouseModel" ({ cls := "RelicHouseModel", name := "lapsed", desc := "(I)I" } : Jvm.MethodName) ({ cls := "RelicHouseModel", name := "lapsed", desc := "(I)I" } : Jvm.MethodName)) ∈ lw_all := lw_g (lw_at lw_m10 180 rfl) rfl
theorem q2440 : (Jvm.Cond.code ({ cls := "RelicHouseModel", name := "lapsed", desc := "(I)I" } : Jvm.MethodName) prog_33_method_83_code (6 : Nat) (Option.some Jvm.ClassFile.FieldType.int)) ∈ lw_all := lw_g (lw_at lw_m10 181 rfl) rfl
theorem q2441 : (Jvm.Cond.methodLink "RelicHouseModel" (359 : Nat) ({ cls := "RelicHouseModel", name := "isLapsed", desc := "(I)Z" } : Jvm.MethodName)) ∈ lw_all := lw_g (lw_at lw_m10 182 rfl) rfl
theorem q2442 : (Jvm.Cond.privateMethod ({ cls := "RelicHouseModel", name := "isLapsed", desc := "(I)Z" } : Jvm.MethodName)) ∈ lw_tbl := lw_at lw_m10 183 rfl
theorem q2443 : (Jvm.Cond.instanceMethod ({ cls := "RelicHouseModel", name := "isLapsed", desc := "(I)Z" } : Jvm.MethodName)) ∈ lw_all := lw_g (lw_at lw_m10 184 rfl) rfl
theorem q2444 : (Jvm.Cond.code ({ cls := "RelicHouseModel", name := "isLapsed", desc := "(I)Z" } : Jvm.MethodName) prog_33_method_82_code (3 : Nat) (Option.some Jvm.ClassFile.FieldType.boolean)) ∈ lw_all := lw_g (lw_at lw_m10 185 rfl) rfl
theorem q2445 : (Jvm.Cond.methodLink "RelicHouseModel" (355 : Nat) ({ cls := "RelicHouseModel", name := "powerIf", desc := "(IZ)I" } : Jvm.MethodName)) ∈ lw_all := lw_g (lw_at lw_m10 186 rfl) rfl
theorem q2446 : (Jvm.Cond.privateMethod ({ cls := "RelicHouseModel", name := "powerIf", desc := "(IZ)I" } : Jvm.MethodName)) ∈ lw_tbl := lw_at lw_m10 187 rfl
theorem q2447 : (Jvm.Cond.instanceMethod ({ cls := "RelicHouseModel", name := "powerIf", desc := "(IZ)I" } : Jvm.MethodName)) ∈ lw_all := lw_g (lw_at lw_m10 188 rfl) rfl
theorem q2448 : (Jvm.Cond.code ({ cls := "RelicHouseModel", name := "powerIf", desc := "(IZ)I" } : Jvm.MethodName) prog_33_method_81_code (4 : Nat) (Option.some Jvm.ClassFile.FieldType.int)) ∈ lw_all := lw_g (lw_at lw_m10 189 rfl) rfl
theorem q2450 : (Jvm.Cond.instanceMethod ({ cls := "RelicHouseModel", name := "ask", desc := "(I)I" } : Jvm.MethodName)) ∈ lw_all := lw_g (lw_at lw_m10 191 rfl) rfl
theorem q2451 : (Jvm.Cond.selects "RelicHouseModel" ({ cls := "RelicHouseModel", name := "ask", desc := "(I)I" } : Jvm.MethodName) ({ cls := "RelicHouseModel", name := "ask", desc := "(I)I" } : Jvm.MethodName)) ∈ lw_all := lw_g (lw_at lw_m10 192 rfl) rfl
theorem q2452 : (Jvm.Cond.code ({ cls := "RelicHouseModel", name := "ask", desc := "(I)I" } : Jvm.MethodName) prog_33_method_85_code (8 : Nat) (Option.some Jvm.ClassFile.FieldType.int)) ∈ lw_all := lw_g (lw_at lw_m10 193 rfl) rfl
theorem q2453 : (Jvm.Cond.methodLink "RelicHouseModel" (362 : Nat) ({ cls := "RelicHouseModel", name := "isTold", desc := "(I)Z" } : Jvm.MethodName)) ∈ lw_all := lw_g (lw_at lw_m10 194 rfl) rfl
theorem q2454 : (Jvm.Cond.privateMethod ({ cls := "RelicHouseModel", name := "isTold", desc := "(I)Z" } : Jvm.MethodName)) ∈ lw_tbl := lw_at lw_m10 195 rfl
theorem q2455 : (Jvm.Cond.instanceMethod ({ cls := "RelicHouseModel", name := "isTold", desc := "(I)Z" } : Jvm.MethodName)) ∈ lw_all := lw_g (lw_at lw_m10 196 rfl) rfl
theorem q2456 : (Jvm.Cond.code ({ cls := "RelicHouseModel", name := "isTold", desc := "(I)Z" } : Jvm.MethodName) prog_33_method_84_code (3 : Nat) (Option.some Jvm.ClassFile.FieldType.boolean)) ∈ lw_all := lw_g (lw_at lw_m10 197 rfl) rfl
theorem q2458 : (Jvm.Cond.instanceMethod ({ cls := "RelicHouseModel", name := "best", desc := "(III)J" } : Jvm.MethodName)) ∈ lw_all := lw_g (lw_at lw_m10 199 rfl) rfl
theorem q2459 : (Jvm.Cond.selects "RelicHouseModel" ({ cls := "RelicHouseModel", name := "best", desc := "(III)J" } : Jvm.MethodName) ({ cls := "RelicHouseModel", name := "best", desc := "(III)J" } : Jvm.MethodName)) ∈ lw_all := lw_g (lw_at lw_m10 200 rfl) rfl
theorem q2460 : (Jvm.Cond.code ({ cls := "RelicHouseModel", name := "best", desc := "(III)J" } : Jvm.MethodName) prog_33_method_88_code (4 : Nat) (Option.some Jvm.ClassFile.FieldType.long)) ∈ lw_all := lw_g (lw_at lw_m10 201 rfl) rfl
theorem q2461 : (Jvm.Cond.methodLink "RelicHouseModel" (365 : Nat) ({ cls := "RelicHouseModel", name := "goesBest", desc := "(IIIII)J" } : Jvm.MethodName)) ∈ lw_all := lw_g (lw_at lw_m10 202 rfl) rfl
theorem q2462 : (Jvm.Cond.privateMethod ({ cls := "RelicHouseModel", name := "goesBest", desc := "(IIIII)J" } : Jvm.MethodName)) ∈ lw_tbl := lw_at lw_m10 203 rfl
theorem q2463 : (Jvm.Cond.instanceMethod ({ cls := "RelicHouseModel", name := "goesBest", desc := "(IIIII)J" } : Jvm.MethodName)) ∈ lw_all := lw_g (lw_at lw_m10 204 rfl) rfl
theorem q2464 : (Jvm.Cond.code ({ cls := "RelicHouseModel", name := "goesBest", desc := "(IIIII)J" } : Jvm.MethodName) prog_33_method_86_code (11 : Nat) (Option.some Jvm.ClassFile.FieldType.long)) ∈ lw_all := lw_g (lw_at lw_m10 205 rfl) rfl
theorem q2465 : (Jvm.Cond.methodLink "RelicHouseModel" (369 : Nat) ({ cls := "RelicHouseModel", name := "partOf", desc := "(JJI)J" } : Jvm.MethodName)) ∈ lw_all := lw_g (lw_at lw_m10 206 rfl) rfl
theorem q2466 : (Jvm.Cond.static ({ cls := "RelicHouseModel", name := "partOf", desc := "(JJI)J" } : Jvm.MethodName)) ∈ lw_all := lw_g (lw_at lw_m10 207 rfl) rfl
theorem q2467 : (Jvm.Cond.code ({ cls := "RelicHouseModel", name := "partOf", desc := "(JJI)J" } : Jvm.MethodName) prog_33_method_87_code (11 : Nat) (Option.some Jvm.ClassFile.FieldType.long)) ∈ lw_all := lw_g (lw_at lw_m10 208 rfl) rfl
theorem q2469 : (Jvm.Cond.instanceMethod ({ cls := "RelicHouseModel", name := "without", desc := "(III)J" } : Jvm.MethodName)) ∈ lw_all := lw_g (lw_at lw_m10 210 rfl) rfl
theorem q2470 : (Jvm.Cond.selects "RelicHouseModel" ({ cls := "RelicHouseModel", name := "without", desc := "(III)J" } : Jvm.MethodName) ({ cls := "RelicHouseModel", name := "without", desc := "(III)J" } : Jvm.MethodName)) ∈ lw_all := lw_g (lw_at lw_m10 211 rfl) rfl
theorem q2471 : (Jvm.Cond.code ({ cls := "RelicHouseModel", name := "without", desc := "(III)J" } : Jvm.MethodName) prog_33_method_89_code (7 : Nat) (Option.some Jvm.ClassFile.FieldType.long)) ∈ lw_all := lw_g (lw_at lw_m10 212 rfl) rfl
theorem q2473 : (Jvm.Cond.instanceMethod ({ cls := "RelicHouseModel", name := "ring", desc := "(I)I" } : Jvm.MethodName)) ∈ lw_all := lw_g (lw_at lw_m10 214 rfl) rfl
theorem q2474 : (Jvm.Cond.selects "RelicHouseModel" ({ cls := "RelicHouseModel", name := "ring", desc := "(I)I" } : Jvm.MethodName) ({ cls := "RelicHouseModel", name := "ring", desc := "(I)I" } : Jvm.MethodName)) ∈ lw_all := lw_g (lw_at lw_m10 215 rfl) rfl
theorem q2475 : (Jvm.Cond.code ({ cls := "RelicHouseModel", name := "ring", desc := "(I)I" } : Jvm.MethodName) prog_33_method_91_code (2 : Nat) (Option.some Jvm.ClassFile.FieldType.int)) ∈ lw_all := lw_g (lw_at lw_m10 216 rfl) rfl
theorem q2476 : (Jvm.Cond.methodLink "RelicHouseModel" (373 : Nat) ({ cls := "RelicHouseModel", name := "ringOf", desc := "(I)I" } : Jvm.MethodName)) ∈ lw_all := lw_g (lw_at lw_m10 217 rfl) rfl
theorem q2477 : (Jvm.Cond.privateMethod ({ cls := "RelicHouseModel", name := "ringOf", desc := "(I)I" } : Jvm.MethodName)) ∈ lw_tbl := lw_at lw_m10 218 rfl
theorem q2478 : (Jvm.Cond.instanceMethod ({ cls := "RelicHouseModel", name := "ringOf", desc := "(I)I" } : Jvm.MethodName)) ∈ lw_all := lw_g (lw_at lw_m10 219 rfl) rfl
theorem q2479 : (Jvm.Cond.code ({ cls := "RelicHouseModel", name := "ringOf", desc := "(I)I" } : Jvm.MethodName) prog_33_method_90_code (4 : Nat) (Option.some Jvm.ClassFile.FieldType.int)) ∈ lw_all := lw_g (lw_at lw_m10 220 rfl) rfl
theorem q2481 : (Jvm.Cond.instanceMethod ({ cls := "RelicHouseModel", name := "follows", desc := "(II)I" } : Jvm.MethodName)) ∈ lw_all := lw_g (lw_at lw_m10 222 rfl) rfl
theorem q2482 : (Jvm.Cond.selects "RelicHouseModel" ({ cls := "RelicHouseModel", name := "follows", desc := "(II)I" } : Jvm.MethodName) ({ cls := "RelicHouseModel", name := "follows", desc := "(II)I" } : Jvm.MethodName)) ∈ lw_all := lw_g (lw_at lw_m10 223 rfl) rfl
theorem q2483 : (Jvm.Cond.code ({ cls := "RelicHouseModel", name := "follows", desc := "(II)I" } : Jvm.MethodName) prog_33_method_92_code (6 : Nat) (Option.some Jvm.ClassFile.FieldType.int)) ∈ lw_all := lw_g (lw_at lw_m10 224 rfl) rfl
theorem q2484 : (Jvm.Cond.constant "RelicHouseModel" (376 : Nat) (1000000 : Int32)) ∈ lw_all := lw_g (lw_at lw_m10 225 rfl) rfl
theorem q2486 : (Jvm.Cond.instanceMethod ({ cls := "RelicHouseModel", name := "tempted", desc := "(III)I" } : Jvm.MethodName)) ∈ lw_all := lw_g (lw_at lw_m10 227 rfl) rfl
theorem q2487 : (Jvm.Cond.selects "RelicHouseModel" ({ cls := "RelicHouseModel", name := "tempted", desc := "(III)I" } : Jvm.MethodName) ({ cls := "RelicHouseModel", name := "tempted", desc := "(III)I" } : Jvm.MethodName)) ∈ lw_all := lw_g (lw_at lw_m10 228 rfl) rfl
theorem q2488 : (Jvm.Cond.code ({ cls := "RelicHouseModel", name := "tempted", desc := "(III)I" } : Jvm.MethodName) prog_33_method_95_code (9 : Nat) (Option.some Jvm.ClassFile.FieldType.int)) ∈ lw_all := lw_g (lw_at lw_m10 229 rfl) rfl
theorem q2489 : (Jvm.Cond.methodLink "RelicHouseModel" (381 : Nat) ({ cls := "RelicHouseModel", name := "isBest", desc := "(IIII)Z" } : Jvm.MethodName)) ∈ lw_all := lw_g (lw_at lw_m10 230 rfl) rfl
theorem q2490 : (Jvm.Cond.static ({ cls := "RelicHouseModel", name := "isBest", desc := "(IIII)Z" } : Jvm.MethodName)) ∈ lw_all := lw_g (lw_at lw_m10 231 rfl) rfl
theorem q2491 : (Jvm.Cond.code ({ cls := "RelicHouseModel", name := "isBest", desc := "(IIII)Z" } : Jvm.MethodName) prog_33_method_94_code (4 : Nat) (Option.some Jvm.ClassFile.FieldType.boolean)) ∈ lw_all := lw_g (lw_at lw_m10 232 rfl) rfl
theorem q2492 : (Jvm.Cond.methodLink "RelicHouseModel" (377 : Nat) ({ cls := "RelicHouseModel", name := "hasBy", desc := "(IIII)I" } : Jvm.MethodName)) ∈ lw_all := lw_g (lw_at lw_m10 233 rfl) rfl
theorem q2493 : (Jvm.Cond.static ({ cls := "RelicHouseModel", name := "hasBy", desc := "(IIII)I" } : Jvm.MethodName)) ∈ lw_all := lw_g (lw_at lw_m10 234 rfl) rfl
theorem q2494 : (Jvm.Cond.code ({ cls := "RelicHouseModel", name := "hasBy", desc := "(IIII)I" } : Jvm.MethodName) prog_33_method_93_code (4 : Nat) (Option.some Jvm.ClassFile.FieldType.int)) ∈ lw_all := lw_g (lw_at lw_m10 235 rfl) rfl
theorem q2496 : (Jvm.Cond.instanceMethod ({ cls := "RelicHouseModel", name := "alms", desc := "(III)I" } : Jvm.MethodName)) ∈ lw_all := lw_g (lw_at lw_m10 237 rfl) rfl
theorem q2497 : (Jvm.Cond.selects "RelicHouseModel" ({ cls := "RelicHouseModel", name := "alms", desc := "(III)I" } : Jvm.MethodName) ({ cls := "RelicHouseModel", name := "alms", desc := "(III)I" } : Jvm.MethodName)) ∈ lw_all := lw_g (lw_at lw_m10 238 rfl) rfl
theorem q2498 : (Jvm.Cond.code ({ cls := "RelicHouseModel", name := "alms", desc := "(III)I" } : Jvm.MethodName) prog_33_method_97_code (5 : Nat) (Option.some Jvm.ClassFile.FieldType.int)) ∈ lw_all := lw_g (lw_at lw_m10 239 rfl) rfl
theorem q2499 : (Jvm.Cond.methodLink "RelicHouseModel" (385 : Nat) ({ cls := "RelicHouseModel", name := "givenBy", desc := "(II)I" } : Jvm.MethodName)) ∈ lw_all := lw_g (lw_at lw_m11 0 rfl) rfl
theorem q2500 : (Jvm.Cond.privateMethod ({ cls := "RelicHouseModel", name := "givenBy", desc := "(II)I" } : Jvm.MethodName)) ∈ lw_tbl := lw_at lw_m11 1 rfl
theorem q2501 : (Jvm.Cond.instanceMethod ({ cls := "RelicHouseModel", name := "givenBy", desc := "(II)I" } : Jvm.MethodName)) ∈ lw_all := lw_g (lw_at lw_m11 2 rfl) rfl
theorem q2502 : (Jvm.Cond.code ({ cls := "RelicHouseModel", name := "givenBy", desc := "(II)I" } : Jvm.MethodName) prog_33_method_96_code (5 : Nat) (Option.some Jvm.ClassFile.FieldType.int)) ∈ lw_all := lw_g (lw_at lw_m11 3 rfl) rfl
theorem q2504 : (Jvm.Cond.instanceMethod ({ cls := "RelicHouseModel", name := "strongest", desc := "(I)I" } : Jvm.MethodName)) ∈ lw_all := lw_g (lw_at lw_m11 5 rfl) rfl
theorem q2505 : (Jvm.Cond.selects "RelicHouseModel" ({ cls := "RelicHouseModel", name := "strongest", desc := "(I)I" } : Jvm.MethodName) ({ cls := "RelicHouseModel", name := "strongest", desc := "(I)I" } : Jvm.MethodName)) ∈ lw_all := lw_g (lw_at lw_m11 6 rfl) rfl
theorem q2506 : (Jvm.Cond.code ({ cls := "RelicHouseModel", name := "strongest", desc := "(I)I" } : Jvm.MethodName) prog_33_method_98_code (5 : Nat) (Option.some Jvm.ClassFile.FieldType.int)) ∈ lw_all := lw_g (lw_at lw_m11 7 rfl) rfl
theorem q2508 : (Jvm.Cond.instanceMethod ({ cls := "RelicHouseModel", name := "eldest", desc := "(I)I" } : Jvm.MethodName)) ∈ lw_all := lw_g (lw_at lw_m11 9 rfl) rfl
theorem q2509 : (Jvm.Cond.selects "RelicHouseModel" ({ cls := "RelicHouseModel", name := "eldest", desc := "(I)I" } : Jvm.MethodName) ({ cls := "RelicHouseModel", name := "eldest", desc := "(I)I" } : Jvm.MethodName)) ∈ lw_all := lw_g (lw_at lw_m11 10 rfl) rfl
theorem q2510 : (Jvm.Cond.code ({ cls := "RelicHouseModel", name := "eldest", desc := "(I)I" } : Jvm.MethodName) prog_33_method_99_code (5 : Nat) (Option.some Jvm.ClassFile.FieldType.int)) ∈ lw_all := lw_g (lw_at lw_m11 11 rfl) rfl
theorem q2512 : (Jvm.Cond.instanceMethod ({ cls := "RelicHouseModel", name := "idle", desc := "()I" } : Jvm.MethodName)) ∈ lw_all := lw_g (lw_at lw_m11 13 rfl) rfl
theorem q2513 : (Jvm.Cond.selects "RelicHouseModel" ({ cls := "RelicHouseModel", name := "idle", desc := "()I" } : Jvm.MethodName) ({ cls := "RelicHouseModel", name := "idle", desc := "()I" } : Jvm.MethodName)) ∈ lw_all := lw_g (lw_at lw_m11 14 rfl) rfl
theorem q2514 : (Jvm.Cond.code ({ cls := "RelicHouseModel", name := "idle", desc := "()I" } : Jvm.MethodName) prog_33_method_100_code (3 : Nat) (Option.some Jvm.ClassFile.FieldType.int)) ∈ lw_all := lw_g (lw_at lw_m11 15 rfl) rfl
theorem q2516 : (Jvm.Cond.instanceMethod ({ cls := "RelicHouseModel", name := "needs", desc := "(I)I" } : Jvm.MethodName)) ∈ lw_all := lw_g (lw_at lw_m11 17 rfl) rfl
theorem q2517 : (Jvm.Cond.selects "RelicHouseModel" ({ cls := "RelicHouseModel", name := "needs", desc := "(I)I" } : Jvm.MethodName) ({ cls := "RelicHouseModel", name := "needs", desc := "(I)I" } : Jvm.MethodName)) ∈ lw_all := lw_g (lw_at lw_m11 18 rfl) rfl
theorem q2518 : (Jvm.Cond.code ({ cls := "RelicHouseModel", name := "needs", desc := "(I)I" } : Jvm.MethodName) prog_33_method_101_code (4 : Nat) (Option.some Jvm.ClassFile.FieldType.int)) ∈ lw_all := lw_g (lw_at lw_m11 19 rfl) rfl
theorem q2520 : (Jvm.Cond.instanceMethod ({ cls := "RelicHouseModel", name := "strength", desc := "(I)I" } : Jvm.MethodName)) ∈ lw_all := lw_g (lw_at lw_m11 21 rfl) rfl
theorem q2521 : (Jvm.Cond.selects "RelicHouseModel" ({ cls := "RelicHouseModel", name := "strength", desc := "(I)I" } : Jvm.MethodName) ({ cls := "RelicHouseModel", name := "strength", desc := "(I)I" } : Jvm.MethodName)) ∈ lw_all := lw_g (lw_at lw_m11 22 rfl) rfl
theorem q2522 : (Jvm.Cond.code ({ cls := "RelicHouseModel", name := "strength", desc := "(I)I" } : Jvm.MethodName) prog_33_method_102_code (4 : Nat) (Option.some Jvm.ClassFile.FieldType.int)) ∈ lw_all := lw_g (lw_at lw_m11 23 rfl) rfl
theorem q2524 : (Jvm.Cond.instanceMethod ({ cls := "RelicHouseModel", name := "weakest", desc := "(I)I" } : Jvm.MethodName)) ∈ lw_all := lw_g (lw_at lw_m11 25 rfl) rfl
theorem q2525 : (Jvm.Cond.selects "RelicHouseModel" ({ cls := "RelicHouseModel", name := "weakest", desc := "(I)I" } : Jvm.MethodName) ({ cls := "RelicHouseModel", name := "weakest", desc := "(I)I" } : Jvm.MethodName)) ∈ lw_all := lw_g (lw_at lw_m11 26 rfl) rfl
theorem q2526 : (Jvm.Cond.code ({ cls := "RelicHouseModel", name := "weakest", desc := "(I)I" } : Jvm.MethodName) prog_33_method_103_code (5 : Nat) (Option.some Jvm.ClassFile.FieldType.int)) ∈ lw_all := lw_g (lw_at lw_m11 27 rfl) rfl
theorem q2528 : (Jvm.Cond.instanceMethod ({ cls := "RelicHouseModel", name := "bare", desc := "()I" } : Jvm.MethodName)) ∈ lw_all := lw_g (lw_at lw_m11 29 rfl) rfl
theorem q2529 : (Jvm.Cond.selects "RelicHouseModel" ({ cls := "RelicHouseModel", name := "bare", desc := "()I" } : Jvm.MethodName) ({ cls := "RelicHouseModel", name := "bare", desc := "()I" } : Jvm.MethodName)) ∈ lw_all := lw_g (lw_at lw_m11 30 rfl) rfl
theorem q2530 : (Jvm.Cond.code ({ cls := "RelicHouseModel", name := "bare", desc := "()I" } : Jvm.MethodName) prog_33_method_104_code (3 : Nat) (Option.some Jvm.ClassFile.FieldType.int)) ∈ lw_all := lw_g (lw_at lw_m11 31 rfl) rfl
theorem q2532 : (Jvm.Cond.instanceMethod ({ cls := "RelicHouseModel", name := "year", desc := "(III)I" } : Jvm.MethodName)) ∈ lw_all := lw_g (lw_at lw_m11 33 rfl) rfl
theorem q2533 : (Jvm.Cond.selects "RelicHouseModel" ({ cls := "RelicHouseModel", name := "year", desc := "(III)I" } : Jvm.MethodName) ({ cls := "RelicHouseModel", name := "year", desc := "(III)I" } : Jvm.MethodName)) ∈ lw_all := lw_g (lw_at lw_m11 34 rfl) rfl
theorem q2534 : (Jvm.Cond.code ({ cls := "RelicHouseModel", name := "year", desc := "(III)I" } : Jvm.MethodName) prog_33_method_108_code (4 : Nat) (Option.some Jvm.ClassFile.FieldType.int)) ∈ lw_all := lw_g (lw_at lw_m11 35 rfl) rfl
theorem q2535 : (Jvm.Cond.methodLink "RelicHouseModel" (398 : Nat) ({ cls := "RelicHouseModel", name := "yearBy", desc := "(II)V" } : Jvm.MethodName)) ∈ lw_all := lw_g (lw_at lw_m11 36 rfl) rfl
theorem q2536 : (Jvm.Cond.privateMethod ({ cls := "RelicHouseModel", name := "yearBy", desc := "(II)V" } : Jvm.MethodName)) ∈ lw_tbl := lw_at lw_m11 37 rfl
theorem q2537 : (Jvm.Cond.instanceMethod ({ cls := "RelicHouseModel", name := "yearBy", desc := "(II)V" } : Jvm.MethodName)) ∈ lw_all := lw_g (lw_at lw_m11 38 rfl) rfl
theorem q2538 : (Jvm.Cond.code ({ cls := "RelicHouseModel", name := "yearBy", desc := "(II)V" } : Jvm.MethodName) prog_33_method_106_code (5 : Nat) (Option.none : Option Jvm.ClassFile.FieldType)) ∈ lw_all := lw_g (lw_at lw_m11 39 rfl) rfl
theorem q2539 : (Jvm.Cond.methodLink "RelicHouseModel" (395 : Nat) ({ cls := "RelicHouseModel", name := "draw", desc := "(I)I" } : Jvm.MethodName)) ∈ lw_all := lw_g (lw_at lw_m11 40 rfl) rfl
theorem q2540 : (Jvm.Cond.privateMethod ({ cls := "RelicHouseModel", name := "draw", desc := "(I)I" } : Jvm.MethodName)) ∈ lw_tbl := lw_at lw_m11 41 rfl
theorem q2541 : (Jvm.Cond.instanceMethod ({ cls := "RelicHouseModel", name := "draw", desc := "(I)I" } : Jvm.MethodName)) ∈ lw_all := lw_g (lw_at lw_m11 42 rfl) rfl
theorem q2542 : (Jvm.Cond.code ({ cls := "RelicHouseModel", name := "draw", desc := "(I)I" } : Jvm.MethodName) prog_33_method_105_code (2 : Nat) (Option.some Jvm.ClassFile.FieldType.int)) ∈ lw_all := lw_g (lw_at lw_m11 43 rfl) rfl
theorem q2543 : (Jvm.Cond.constant "RelicHouseModel" (391 : Nat) (1103515245 : Int32)) ∈ lw_all := lw_g (lw_at lw_m11 44 rfl) rfl
theorem q2544 : (Jvm.Cond.methodLink "RelicHouseModel" (401 : Nat) ({ cls := "RelicHouseModel", name := "curedMore", desc := "()I" } : Jvm.MethodName)) ∈ lw_all := lw_g (lw_at lw_m11 45 rfl) rfl
theorem q2545 : (Jvm.Cond.privateMethod ({ cls := "RelicHouseModel", name := "curedMore", desc := "()I" } : Jvm.MethodName)) ∈ lw_tbl := lw_at lw_m11 46 rfl
theorem q2546 : (Jvm.Cond.instanceMethod ({ cls := "RelicHouseModel", name := "curedMore", desc := "()I" } : Jvm.MethodName)) ∈ lw_all := lw_g (lw_at lw_m11 47 rfl) rfl
theorem q2547 : (Jvm.Cond.code ({ cls := "RelicHouseModel", name := "curedMore", desc := "()I" } : Jvm.MethodName) prog_33_method_107_code (1 : Nat) (Option.some Jvm.ClassFile.FieldType.int)) ∈ lw_all := lw_g (lw_at lw_m11 48 rfl) rfl
theorem q2549 : (Jvm.Cond.instanceMethod ({ cls := "RelicHouseModel", name := "span", desc := "(IIIII)I" } : Jvm.MethodName)) ∈ lw_all := lw_g (lw_at lw_m11 50 rfl) rfl
theorem q2550 : (Jvm.Cond.selects "RelicHouseModel" ({ cls := "RelicHouseModel", name := "span", desc := "(IIIII)I" } : Jvm.MethodName) ({ cls := "RelicHouseModel", name := "span", desc := "(IIIII)I" } : Jvm.MethodName)) ∈ lw_all := lw_g (lw_at lw_m11 51 rfl) rfl
theorem q2551 : (Jvm.Cond.code ({ cls := "RelicHouseModel", name := "span", desc := "(IIIII)I" } : Jvm.MethodName) prog_33_method_109_code (11 : Nat) (Option.some Jvm.ClassFile.FieldType.int)) ∈ lw_all := lw_g (lw_at lw_m11 52 rfl) rfl
theorem q2553 : (Jvm.Cond.instanceMethod ({ cls := "RelicHouseModel", name := "image", desc := "()I" } : Jvm.MethodName)) ∈ lw_all := lw_g (lw_at lw_m11 54 rfl) rfl
theorem q2554 : (Jvm.Cond.selects "RelicHouseModel" ({ cls := "RelicHouseModel", name := "image", desc := "()I" } : Jvm.MethodName) ({ cls := "RelicHouseModel", name := "image", desc := "()I" } : Jvm.MethodName)) ∈ lw_all := lw_g (lw_at lw_m11 55 rfl) rfl
theorem q2555 : (Jvm.Cond.code ({ cls := "RelicHouseModel", name := "image", desc := "()I" } : Jvm.MethodName) prog_33_method_112_code (1 : Nat) (Option.some Jvm.ClassFile.FieldType.int)) ∈ lw_all := lw_g (lw_at lw_m11 56 rfl) rfl
theorem q2556 : (Jvm.Cond.methodLink "RelicHouseModel" (411 : Nat) ({ cls := "RelicHouseModel", name := "putsAll", desc := "([IZ)V" } : Jvm.MethodName)) ∈ lw_all := lw_g (lw_at lw_m11 57 rfl) rfl
theorem q2557 : (Jvm.Cond.privateMethod ({ cls := "RelicHouseModel", name := "putsAll", desc := "([IZ)V" } : Jvm.MethodName)) ∈ lw_tbl := lw_at lw_m11 58 rfl
theorem q2558 : (Jvm.Cond.instanceMethod ({ cls := "RelicHouseModel", name := "putsAll", desc := "([IZ)V" } : Jvm.MethodName)) ∈ lw_all := lw_g (lw_at lw_m11 59 rfl) rfl
theorem q2559 : (Jvm.Cond.code ({ cls := "RelicHouseModel", name := "putsAll", desc := "([IZ)V" } : Jvm.MethodName) prog_33_method_111_code (5 : Nat) (Option.none : Option Jvm.ClassFile.FieldType)) ∈ lw_all := lw_g (lw_at lw_m11 60 rfl) rfl
theorem q2560 : (Jvm.Cond.methodLink "RelicHouseModel" (407 : Nat) ({ cls := "RelicHouseModel", name := "puts", desc := "([IIZ)I" } : Jvm.MethodName)) ∈ lw_all := lw_g (lw_at lw_m11 61 rfl) rfl
theorem q2561 : (Jvm.Cond.privateMethod ({ cls := "RelicHouseModel", name := "puts", desc := "([IIZ)I" } : Jvm.MethodName)) ∈ lw_tbl := lw_at lw_m11 62 rfl
theorem q2562 : (Jvm.Cond.instanceMethod ({ cls := "RelicHouseModel", name := "puts", desc := "([IIZ)I" } : Jvm.MethodName)) ∈ lw_all := lw_g (lw_at lw_m11 63 rfl) rfl
theorem q2563 : (Jvm.Cond.code ({ cls := "RelicHouseModel", name := "puts", desc := "([IIZ)I" } : Jvm.MethodName) prog_33_method_110_code (4 : Nat) (Option.some Jvm.ClassFile.FieldType.int)) ∈ lw_all := lw_g (lw_at lw_m11 64 rfl) rfl
theorem q2565 : (Jvm.Cond.instanceMethod ({ cls := "RelicHouseModel", name := "restore", desc := "()I" } : Jvm.MethodName)) ∈ lw_all := lw_g (lw_at lw_m11 66 rfl) rfl
theorem q2566 : (Jvm.Cond.selects "RelicHouseModel" ({ cls := "RelicHouseModel", name := "restore", desc := "()I" } : Jvm.MethodName) ({ cls := "RelicHouseModel", name := "restore", desc := "()I" } : Jvm.MethodName)) ∈ lw_all := lw_g (lw_at lw_m11 67 rfl) rfl
theorem q2567 : (Jvm.Cond.code ({ cls := "RelicHouseModel", name := "restore", desc := "()I" } : Jvm.MethodName) prog_33_method_113_code (1 : Nat) (Option.some Jvm.ClassFile.FieldType.int)) ∈ lw_all := lw_g (lw_at lw_m11 68 rfl) rfl
theorem q2569 : (Jvm.Cond.instanceMethod ({ cls := "RelicHouseModel", name := "status", desc := "(I)I" } : Jvm.MethodName)) ∈ lw_all := lw_g (lw_at lw_m11 70 rfl) rfl
theorem q2570 : (Jvm.Cond.selects "RelicHouseModel" ({ cls := "RelicHouseModel", name := "status", desc := "(I)I" } : Jvm.MethodName) ({ cls := "RelicHouseModel", name := "status", desc := "(I)I" } : Jvm.MethodName)) ∈ lw_all := lw_g (lw_at lw_m11 71 rfl) rfl
theorem q2571 : (Jvm.Cond.code ({ cls := "RelicHouseModel", name := "status", desc := "(I)I" } : Jvm.MethodName) prog_33_method_114_code (2 : Nat) (Option.some Jvm.ClassFile.FieldType.int)) ∈ lw_all := lw_g (lw_at lw_m11 72 rfl) rfl
theorem q2573 : (Jvm.Cond.instanceMethod ({ cls := "RelicHouseModel", name := "count", desc := "(I)I" } : Jvm.MethodName)) ∈ lw_all := lw_g (lw_at lw_m11 74 rfl) rfl
theorem q2574 : (Jvm.Cond.selects "RelicHouseModel" ({ cls := "RelicHouseModel", name := "count", desc := "(I)I" } : Jvm.MethodName) ({ cls := "RelicHouseModel", name := "count", desc := "(I)I" } : Jvm.MethodName)) ∈ lw_all := lw_g (lw_at lw_m11 75 rfl) rfl
theorem q2575 : (Jvm.Cond.code ({ cls := "RelicHouseModel", name := "count", desc := "(I)I" } : Jvm.MethodName) prog_33_method_115_code (2 : Nat) (Option.some Jvm.ClassFile.FieldType.int)) ∈ lw_all := lw_g (lw_at lw_m11 76 rfl) rfl
theorem q2618 : (Jvm.Cond.castable "RelicHouseModel" "java/lang/Object") ∈ lw_tbl := lw_at lw_m11 119 rfl
theorem in_X11 : ∀ w ∈ wsX110, w ∈ lw_all := lw_in wsX110 [2045, 2047, 2049, 2051, 2053, 2055, 2057, 2059, 2061, 2063, 2065, 2067, 2069, 2071, 2073, 2075, 2077, 2079, 2081, 2083, 2085, 2087, 2089, 2091, 2093, 2095, 2097, 2099, 2101, 2103, 2105, 2107, 2109, 2111, 2113, 2115, 2117, 2119, 2121, 2123, 2125, 2127, 2129, 2131, 2133, 2135, 2137, 2139, 2141] (by decide +kernel) (by decide +kernel)
/-! RelicHouse$Reader -/
def RX12 : String := "RelicHouse$Reader"
abbrev cX12_init : ByteArray := prog_22_method_1_code
def yX12_init : MethodName := ⟨RX12, "<init>", "([BI)V"⟩
abbrev cX12_sign : ByteArray := prog_22_method_2_code
def yX12_sign : MethodName := ⟨RX12, "sign", "()I"⟩
abbrev cX12_word : ByteArray := prog_22_method_3_code
def yX12_word : MethodName := ⟨RX12, "word", "()Ljava/lang/String;"⟩
abbrev cX12_wrong : ByteArray := prog_22_method_4_code
def yX12_wrong : MethodName := ⟨RX12, "wrong", "()LRelicHouse$Wrong;"⟩
abbrev cX12_number : ByteArray := prog_22_method_7_code
def yX12_number : MethodName := ⟨RX12, "number", "(II)I"⟩
abbrev cX12_need : ByteArray := prog_22_method_5_code
def yX12_need : MethodName := ⟨RX12, "need", "(I)V"⟩
abbrev cX12_opens : ByteArray := prog_22_method_6_code
def yX12_opens : MethodName := ⟨RX12, "opens", "(I)V"⟩
theorem q130 : (Jvm.Cond.initialized "RelicHouse$Reader") ∈ lw_all := lw_g (lw_at lw_m1 31 rfl) rfl
theorem q956 : (Jvm.Cond.instanceMethod ({ cls := "RelicHouse$Reader", name := "<init>", desc := "([BI)V" } : Jvm.MethodName)) ∈ lw_all := lw_g (lw_at lw_m4 137 rfl) rfl
theorem q957 : (Jvm.Cond.code ({ cls := "RelicHouse$Reader", name := "<init>", desc := "([BI)V" } : Jvm.MethodName) prog_22_method_1_code (3 : Nat) (Option.none : Option Jvm.ClassFile.FieldType)) ∈ lw_all := lw_g (lw_at lw_m4 138 rfl) rfl
theorem q958 : (Jvm.Cond.methodLink "RelicHouse$Reader" (3 : Nat) ({ cls := "java/lang/Object", name := "<init>", desc := "()V" } : Jvm.MethodName)) ∈ lw_all := lw_g (lw_at lw_m4 139 rfl) rfl
theorem q962 : (Jvm.Cond.fieldLink "RelicHouse$Reader" (9 : Nat) "RelicHouse$Reader" "text" "[B") ∈ lw_all := lw_g (lw_at lw_m4 143 rfl) rfl
theorem q963 : (Jvm.Cond.fieldLink "RelicHouse$Reader" (15 : Nat) "RelicHouse$Reader" "size" "I") ∈ lw_all := lw_g (lw_at lw_m4 144 rfl) rfl
theorem q972 : (Jvm.Cond.fieldLink "RelicHouse$Reader" (19 : Nat) "RelicHouse$Reader" "next" "I") ∈ lw_all := lw_g (lw_at lw_m4 153 rfl) rfl
theorem q983 : (Jvm.Cond.fieldLink "RelicHouse$Reader" (52 : Nat) "RelicHouse$Reader" "from" "I") ∈ lw_all := lw_g (lw_at lw_m4 164 rfl) rfl
theorem q986 : (Jvm.Cond.fieldLink "RelicHouse$Reader" (49 : Nat) "RelicHouse$Reader" "open" "I") ∈ lw_all := lw_g (lw_at lw_m4 167 rfl) rfl
theorem q992 : (Jvm.Cond.soleField "RelicHouse$Reader" "text") ∈ lw_all := lw_g (lw_at lw_m4 173 rfl) rfl
theorem q994 : (Jvm.Cond.soleField "RelicHouse$Reader" "size") ∈ lw_all := lw_g (lw_at lw_m4 175 rfl) rfl
theorem q996 : (Jvm.Cond.soleField "RelicHouse$Reader" "next") ∈ lw_all := lw_g (lw_at lw_m4 177 rfl) rfl
theorem q998 : (Jvm.Cond.soleField "RelicHouse$Reader" "from") ∈ lw_all := lw_g (lw_at lw_m4 179 rfl) rfl
theorem q1000 : (Jvm.Cond.soleField "RelicHouse$Reader" "open") ∈ lw_all := lw_g (lw_at lw_m4 181 rfl) rfl
theorem q1008 : (Jvm.Cond.declares ({ cls := "RelicHouse$Reader", name := "sign", desc := "()I" } : Jvm.MethodName)) ∈ lw_tbl := lw_at lw_m4 189 rfl
theorem q1010 : (Jvm.Cond.instanceMethod ({ cls := "RelicHouse$Reader", name := "sign", desc := "()I" } : Jvm.MethodName)) ∈ lw_all := lw_g (lw_at lw_m4 191 rfl) rfl
theorem q1011 : (Jvm.Cond.code ({ cls := "RelicHouse$Reader", name := "sign", desc := "()I" } : Jvm.MethodName) prog_22_method_2_code (1 : Nat) (Option.some Jvm.ClassFile.FieldType.int)) ∈ lw_all := lw_g (lw_at lw_m4 192 rfl) rfl
theorem q1014 : (Jvm.Cond.declares ({ cls := "RelicHouse$Reader", name := "word", desc := "()Ljava/lang/String;" } : Jvm.MethodName)) ∈ lw_tbl := lw_at lw_m4 195 rfl
theorem q1016 : (Jvm.Cond.instanceMethod ({ cls := "RelicHouse$Reader", name := "word", desc := "()Ljava/lang/String;" } : Jvm.MethodName)) ∈ lw_all := lw_g (lw_at lw_m4 197 rfl) rfl
theorem q1017 : (Jvm.Cond.code ({ cls := "RelicHouse$Reader", name := "word", desc := "()Ljava/lang/String;" } : Jvm.MethodName) prog_22_method_3_code (3 : Nat) (Option.some (Jvm.ClassFile.FieldType.object "java/lang/String"))) ∈ lw_all := lw_g (lw_at lw_m4 198 rfl) rfl
theorem q1018 : (Jvm.Cond.methodLink "RelicHouse$Reader" (22 : Nat) ({ cls := "RelicHouse$Reader", name := "sign", desc := "()I" } : Jvm.MethodName)) ∈ lw_all := lw_g (lw_at lw_m4 199 rfl) rfl
theorem q1019 : (Jvm.Cond.classLink "RelicHouse$Reader" (26 : Nat) "java/lang/StringBuilder") ∈ lw_all := lw_g (lw_at lw_m4 200 rfl) rfl
theorem q1020 : (Jvm.Cond.methodLink "RelicHouse$Reader" (28 : Nat) ({ cls := "java/lang/StringBuilder", name := "<init>", desc := "()V" } : Jvm.MethodName)) ∈ lw_all := lw_g (lw_at lw_m4 201 rfl) rfl
theorem q1021 : (Jvm.Cond.methodLink "RelicHouse$Reader" (29 : Nat) ({ cls := "java/lang/StringBuilder", name := "length", desc := "()I" } : Jvm.MethodName)) ∈ lw_all := lw_g (lw_at lw_m4 202 rfl) rfl
theorem q1022 : (Jvm.Cond.methodLink "RelicHouse$Reader" (32 : Nat) ({ cls := "java/lang/StringBuilder", name := "append", desc := "(C)Ljava/lang/StringBuilder;" } : Jvm.MethodName)) ∈ lw_all := lw_g (lw_at lw_m4 203 rfl) rfl
theorem q1042 : (Jvm.Cond.methodLink "RelicHouse$Reader" (36 : Nat) ({ cls := "java/lang/StringBuilder", name := "toString", desc := "()Ljava/lang/String;" } : Jvm.MethodName)) ∈ lw_all := lw_g (lw_at lw_m4 223 rfl) rfl
theorem q1122 : (Jvm.Cond.declares ({ cls := "RelicHouse$Reader", name := "wrong", desc := "()LRelicHouse$Wrong;" } : Jvm.MethodName)) ∈ lw_tbl := lw_at lw_m5 63 rfl
theorem q1124 : (Jvm.Cond.instanceMethod ({ cls := "RelicHouse$Reader", name := "wrong", desc := "()LRelicHouse$Wrong;" } : Jvm.MethodName)) ∈ lw_all := lw_g (lw_at lw_m5 65 rfl) rfl
theorem q1125 : (Jvm.Cond.code ({ cls := "RelicHouse$Reader", name := "wrong", desc := "()LRelicHouse$Wrong;" } : Jvm.MethodName) prog_22_method_4_code (1 : Nat) (Option.some (Jvm.ClassFile.FieldType.object "RelicHouse$Wrong"))) ∈ lw_all := lw_g (lw_at lw_m5 66 rfl) rfl
theorem q1126 : (Jvm.Cond.classLink "RelicHouse$Reader" (40 : Nat) "RelicHouse$Wrong") ∈ lw_all := lw_g (lw_at lw_m5 67 rfl) rfl
theorem q1135 : (Jvm.Cond.methodLink "RelicHouse$Reader" (42 : Nat) ({ cls := "RelicHouse$Wrong", name := "<init>", desc := "(II)V" } : Jvm.MethodName)) ∈ lw_all := lw_g (lw_at lw_m5 76 rfl) rfl
theorem q1164 : (Jvm.Cond.declares ({ cls := "RelicHouse$Reader", name := "number", desc := "(II)I" } : Jvm.MethodName)) ∈ lw_tbl := lw_at lw_m5 105 rfl
theorem q1166 : (Jvm.Cond.instanceMethod ({ cls := "RelicHouse$Reader", name := "number", desc := "(II)I" } : Jvm.MethodName)) ∈ lw_all := lw_g (lw_at lw_m5 107 rfl) rfl
theorem q1167 : (Jvm.Cond.code ({ cls := "RelicHouse$Reader", name := "number", desc := "(II)I" } : Jvm.MethodName) prog_22_method_7_code (5 : Nat) (Option.some Jvm.ClassFile.FieldType.int)) ∈ lw_all := lw_g (lw_at lw_m5 108 rfl) rfl
theorem q1168 : (Jvm.Cond.methodLink "RelicHouse$Reader" (45 : Nat) ({ cls := "RelicHouse$Reader", name := "wrong", desc := "()LRelicHouse$Wrong;" } : Jvm.MethodName)) ∈ lw_all := lw_g (lw_at lw_m5 109 rfl) rfl
theorem q1169 : (Jvm.Cond.constant "RelicHouse$Reader" (55 : Nat) (100000 : Int32)) ∈ lw_all := lw_g (lw_at lw_m5 110 rfl) rfl
theorem q1170 : (Jvm.Cond.methodLink "RelicHouse$Reader" (56 : Nat) ({ cls := "java/lang/Math", name := "min", desc := "(II)I" } : Jvm.MethodName)) ∈ lw_all := lw_g (lw_at lw_m5 111 rfl) rfl
theorem q1282 : (Jvm.Cond.declares ({ cls := "RelicHouse$Reader", name := "need", desc := "(I)V" } : Jvm.MethodName)) ∈ lw_tbl := lw_at lw_m5 223 rfl
theorem q1284 : (Jvm.Cond.instanceMethod ({ cls := "RelicHouse$Reader", name := "need", desc := "(I)V" } : Jvm.MethodName)) ∈ lw_all := lw_g (lw_at lw_m5 225 rfl) rfl
theorem q1285 : (Jvm.Cond.code ({ cls := "RelicHouse$Reader", name := "need", desc := "(I)V" } : Jvm.MethodName) prog_22_method_5_code (2 : Nat) (Option.none : Option Jvm.ClassFile.FieldType)) ∈ lw_all := lw_g (lw_at lw_m5 226 rfl) rfl
theorem q1330 : (Jvm.Cond.declares ({ cls := "RelicHouse$Reader", name := "opens", desc := "(I)V" } : Jvm.MethodName)) ∈ lw_tbl := lw_at lw_m6 31 rfl
theorem q1332 : (Jvm.Cond.instanceMethod ({ cls := "RelicHouse$Reader", name := "opens", desc := "(I)V" } : Jvm.MethodName)) ∈ lw_all := lw_g (lw_at lw_m6 33 rfl) rfl
theorem q1333 : (Jvm.Cond.code ({ cls := "RelicHouse$Reader", name := "opens", desc := "(I)V" } : Jvm.MethodName) prog_22_method_6_code (2 : Nat) (Option.none : Option Jvm.ClassFile.FieldType)) ∈ lw_all := lw_g (lw_at lw_m6 34 rfl) rfl
theorem q2586 : (Jvm.Cond.sameMethod "RelicHouse$Reader" "RelicHouse$Reader" "sign" "()I") ∈ lw_all := lw_g (lw_at lw_m11 87 rfl) rfl
theorem q2593 : (Jvm.Cond.sameMethod "RelicHouse$Reader" "RelicHouse$Reader" "wrong" "()LRelicHouse$Wrong;") ∈ lw_all := lw_g (lw_at lw_m11 94 rfl) rfl
/-! RelicHouse$HouseReader -/
def RX13 : String := "RelicHouse$HouseReader"
def TX13 : u_T := fun k => match k with
  | 0 => ("RelicHouse$Reader", "text", "[B", true)
  | 1 => ("RelicHouse$Reader", "size", "I", true)
  | 2 => ("RelicHouse$Reader", "next", "I", false)
  | 3 => ("RelicHouse$Reader", "from", "I", false)
  | 4 => ("RelicHouse$Reader", "open", "I", false)
  | _ => ("RelicHouse$HouseReader", "t", "LRelicHouse$Told;", true)
def tyX13 : Nat → FieldType := fun k => match k with
  | 0 => .array .byte
  | 1 => .int
  | 2 => .int
  | 3 => .int
  | 4 => .int
  | _ => .object "RelicHouse$Told"
abbrev wsX130 : List Cond := u_ws RX13 TX13 6
theorem nmX13 : ∀ a, a < 6 → ∀ b, b < 6 → a ≠ b → (TX13 a).2.1 ≠ (TX13 b).2.1 := by decide +kernel
theorem tyX13_ok : ∀ k, k < 6 → parseFieldDescriptor (TX13 k).2.2.1 = some (tyX13 k) := by decide +kernel
abbrev cX13_init : ByteArray := prog_11_method_1_code
def yX13_init : MethodName := ⟨RX13, "<init>", "([BI)V"⟩
abbrev cX13_reads : ByteArray := prog_11_method_2_code
def yX13_reads : MethodName := ⟨RX13, "reads", "()LRelicHouse$Told;"⟩
abbrev cX13_clause : ByteArray := prog_11_method_5_code
def yX13_clause : MethodName := ⟨RX13, "clause", "(Ljava/lang/String;)V"⟩
abbrev cX13_isFull : ByteArray := prog_11_method_3_code
def yX13_isFull : MethodName := ⟨RX13, "isFull", "(Ljava/lang/String;)Z"⟩
abbrev cX13_sister : ByteArray := prog_11_method_4_code
def yX13_sister : MethodName := ⟨RX13, "sister", "()I"⟩
theorem q131 : (Jvm.Cond.initialized "RelicHouse$HouseReader") ∈ lw_all := lw_g (lw_at lw_m1 32 rfl) rfl
theorem q511 : (Jvm.Cond.fieldLinkNest "RelicHouse$HouseReader" (97 : Nat) "RelicHouse$Told" "tempted" "[I" "RelicHouse") ∈ lw_tbl := lw_at lw_m2 172 rfl
theorem q515 : (Jvm.Cond.fieldLinkNest "RelicHouse$HouseReader" (114 : Nat) "RelicHouse$Told" "vow" "[I" "RelicHouse") ∈ lw_tbl := lw_at lw_m2 176 rfl
theorem q519 : (Jvm.Cond.fieldLinkNest "RelicHouse$HouseReader" (64 : Nat) "RelicHouse$Told" "relics" "Ljava/util/ArrayList;" "RelicHouse") ∈ lw_tbl := lw_at lw_m2 180 rfl
theorem q522 : (Jvm.Cond.fieldLinkNest "RelicHouse$HouseReader" (72 : Nat) "RelicHouse$Told" "pilgrims" "Ljava/util/ArrayList;" "RelicHouse") ∈ lw_tbl := lw_at lw_m2 183 rfl
theorem q526 : (Jvm.Cond.fieldLinkNest "RelicHouse$HouseReader" (61 : Nat) "RelicHouse$Told" "sisters" "I" "RelicHouse") ∈ lw_tbl := lw_at lw_m2 187 rfl
theorem q529 : (Jvm.Cond.fieldLinkNest "RelicHouse$HouseReader" (43 : Nat) "RelicHouse$Told" "clauses" "I" "RelicHouse") ∈ lw_tbl := lw_at lw_m2 190 rfl
theorem q951 : (Jvm.Cond.instantiable "RelicHouse$HouseReader" (6 : Nat)) ∈ lw_all := lw_g (lw_at lw_m4 132 rfl) rfl
theorem q953 : (Jvm.Cond.instanceMethod ({ cls := "RelicHouse$HouseReader", name := "<init>", desc := "([BI)V" } : Jvm.MethodName)) ∈ lw_all := lw_g (lw_at lw_m4 134 rfl) rfl
theorem q954 : (Jvm.Cond.code ({ cls := "RelicHouse$HouseReader", name := "<init>", desc := "([BI)V" } : Jvm.MethodName) prog_11_method_1_code (3 : Nat) (Option.none : Option Jvm.ClassFile.FieldType)) ∈ lw_all := lw_g (lw_at lw_m4 135 rfl) rfl
theorem q955 : (Jvm.Cond.methodLink "RelicHouse$HouseReader" (3 : Nat) ({ cls := "RelicHouse$Reader", name := "<init>", desc := "([BI)V" } : Jvm.MethodName)) ∈ lw_all := lw_g (lw_at lw_m4 136 rfl) rfl
theorem q959 : (Jvm.Cond.classLink "RelicHouse$HouseReader" (9 : Nat) "RelicHouse$Told") ∈ lw_all := lw_g (lw_at lw_m4 140 rfl) rfl
theorem q960 : (Jvm.Cond.methodLink "RelicHouse$HouseReader" (11 : Nat) ({ cls := "RelicHouse$Told", name := "<init>", desc := "()V" } : Jvm.MethodName)) ∈ lw_all := lw_g (lw_at lw_m4 141 rfl) rfl
theorem q961 : (Jvm.Cond.fieldLink "RelicHouse$HouseReader" (14 : Nat) "RelicHouse$HouseReader" "t" "LRelicHouse$Told;") ∈ lw_all := lw_g (lw_at lw_m4 142 rfl) rfl
theorem q964 : (Jvm.Cond.fieldLink "RelicHouse$HouseReader" (28 : Nat) "RelicHouse$HouseReader" "size" "I") ∈ lw_all := lw_g (lw_at lw_m4 145 rfl) rfl
theorem q965 : (Jvm.Cond.sameField "RelicHouse$HouseReader" "RelicHouse$Reader" "size" "I") ∈ lw_all := lw_g (lw_at lw_m4 146 rfl) rfl
theorem q973 : (Jvm.Cond.fieldLink "RelicHouse$HouseReader" (24 : Nat) "RelicHouse$HouseReader" "next" "I") ∈ lw_all := lw_g (lw_at lw_m4 154 rfl) rfl
theorem q974 : (Jvm.Cond.sameField "RelicHouse$HouseReader" "RelicHouse$Reader" "next" "I") ∈ lw_all := lw_g (lw_at lw_m4 155 rfl) rfl
theorem q989 : (Jvm.Cond.laysFinal "RelicHouse$HouseReader" "RelicHouse$HouseReader" "t" "LRelicHouse$Told;") ∈ lw_all := lw_g (lw_at lw_m4 170 rfl) rfl
theorem q990 : (Jvm.Cond.soleField "RelicHouse$HouseReader" "t") ∈ lw_all := lw_g (lw_at lw_m4 171 rfl) rfl
theorem q991 : (Jvm.Cond.laysFinal "RelicHouse$HouseReader" "RelicHouse$Reader" "text" "[B") ∈ lw_all := lw_g (lw_at lw_m4 172 rfl) rfl
theorem q993 : (Jvm.Cond.laysFinal "RelicHouse$HouseReader" "RelicHouse$Reader" "size" "I") ∈ lw_all := lw_g (lw_at lw_m4 174 rfl) rfl
theorem q995 : (Jvm.Cond.lays "RelicHouse$HouseReader" "RelicHouse$Reader" "next" "I") ∈ lw_all := lw_g (lw_at lw_m4 176 rfl) rfl
theorem q997 : (Jvm.Cond.lays "RelicHouse$HouseReader" "RelicHouse$Reader" "from" "I") ∈ lw_all := lw_g (lw_at lw_m4 178 rfl) rfl
theorem q999 : (Jvm.Cond.lays "RelicHouse$HouseReader" "RelicHouse$Reader" "open" "I") ∈ lw_all := lw_g (lw_at lw_m4 180 rfl) rfl
theorem q1001 : (Jvm.Cond.superclass "RelicHouse$HouseReader" "RelicHouse$Reader") ∈ lw_all := lw_g (lw_at lw_m4 182 rfl) rfl
theorem q1003 : (Jvm.Cond.instanceMethod ({ cls := "RelicHouse$HouseReader", name := "reads", desc := "()LRelicHouse$Told;" } : Jvm.MethodName)) ∈ lw_all := lw_g (lw_at lw_m4 184 rfl) rfl
theorem q1004 : (Jvm.Cond.selects "RelicHouse$HouseReader" ({ cls := "RelicHouse$HouseReader", name := "reads", desc := "()LRelicHouse$Told;" } : Jvm.MethodName) ({ cls := "RelicHouse$HouseReader", name := "reads", desc := "()LRelicHouse$Told;" } : Jvm.MethodName)) ∈ lw_all := lw_g (lw_at lw_m4 185 rfl) rfl
theorem q1005 : (Jvm.Cond.code ({ cls := "RelicHouse$HouseReader", name := "reads", desc := "()LRelicHouse$Told;" } : Jvm.MethodName) prog_11_method_2_code (1 : Nat) (Option.some (Jvm.ClassFile.FieldType.object "RelicHouse$Told"))) ∈ lw_all := lw_g (lw_at lw_m4 186 rfl) rfl
theorem q1006 : (Jvm.Cond.methodLink "RelicHouse$HouseReader" (20 : Nat) ({ cls := "RelicHouse$HouseReader", name := "sign", desc := "()I" } : Jvm.MethodName)) ∈ lw_all := lw_g (lw_at lw_m4 187 rfl) rfl
theorem q1007 : (Jvm.Cond.sameMethod "RelicHouse$HouseReader" "RelicHouse$Reader" "sign" "()I") ∈ lw_all := lw_g (lw_at lw_m4 188 rfl) rfl
theorem q1009 : (Jvm.Cond.selects "RelicHouse$HouseReader" ({ cls := "RelicHouse$HouseReader", name := "sign", desc := "()I" } : Jvm.MethodName) ({ cls := "RelicHouse$Reader", name := "sign", desc := "()I" } : Jvm.MethodName)) ∈ lw_all := lw_g (lw_at lw_m4 190 rfl) rfl
theorem q1012 : (Jvm.Cond.methodLink "RelicHouse$HouseReader" (31 : Nat) ({ cls := "RelicHouse$HouseReader", name := "word", desc := "()Ljava/lang/String;" } : Jvm.MethodName)) ∈ lw_all := lw_g (lw_at lw_m4 193 rfl) rfl
theorem q1013 : (Jvm.Cond.sameMethod "RelicHouse$HouseReader" "RelicHouse$Reader" "word" "()Ljava/lang/String;") ∈ lw_all := lw_g (lw_at lw_m4 194 rfl) rfl
theorem q1015 : (Jvm.Cond.selects "RelicHouse$HouseReader" ({ cls := "RelicHouse$HouseReader", name := "word", desc := "()Ljava/lang/String;" } : Jvm.MethodName) ({ cls := "RelicHouse$Reader", name := "word", desc := "()Ljava/lang/String;" } : Jvm.MethodName)) ∈ lw_all := lw_g (lw_at lw_m4 196 rfl) rfl
theorem q1043 : (Jvm.Cond.methodLink "RelicHouse$HouseReader" (35 : Nat) ({ cls := "RelicHouse$HouseReader", name := "clause", desc := "(Ljava/lang/String;)V" } : Jvm.MethodName)) ∈ lw_all := lw_g (lw_at lw_m4 224 rfl) rfl
theorem q1044 : (Jvm.Cond.privateMethod ({ cls := "RelicHouse$HouseReader", name := "clause", desc := "(Ljava/lang/String;)V" } : Jvm.MethodName)) ∈ lw_tbl := lw_at lw_m4 225 rfl
theorem q1045 : (Jvm.Cond.instanceMethod ({ cls := "RelicHouse$HouseReader", name := "clause", desc := "(Ljava/lang/String;)V" } : Jvm.MethodName)) ∈ lw_all := lw_g (lw_at lw_m4 226 rfl) rfl
theorem q1046 : (Jvm.Cond.code ({ cls := "RelicHouse$HouseReader", name := "clause", desc := "(Ljava/lang/String;)V" } : Jvm.MethodName) prog_11_method_5_code (6 : Nat) (Option.none : Option Jvm.ClassFile.FieldType)) ∈ lw_all := lw_g (lw_at lw_m4 227 rfl) rfl
theorem q1047 : (Jvm.Cond.methodLink "RelicHouse$HouseReader" (46 : Nat) ({ cls := "java/lang/String", name := "hashCode", desc := "()I" } : Jvm.MethodName)) ∈ lw_all := lw_g (lw_at lw_m4 228 rfl) rfl
theorem q1108 : (Jvm.Cond.stringRef "RelicHouse$HouseReader" (51 : Nat) "sister") ∈ lw_tbl := lw_at lw_m5 49 rfl
theorem q1109 : (Jvm.Cond.methodLink "RelicHouse$HouseReader" (53 : Nat) ({ cls := "java/lang/String", name := "equals", desc := "(Ljava/lang/Object;)Z" } : Jvm.MethodName)) ∈ lw_all := lw_g (lw_at lw_m5 50 rfl) rfl
theorem q1117 : (Jvm.Cond.stringRef "RelicHouse$HouseReader" (57 : Nat) "relic") ∈ lw_tbl := lw_at lw_m5 58 rfl
theorem q1118 : (Jvm.Cond.stringRef "RelicHouse$HouseReader" (59 : Nat) "pilgrim") ∈ lw_tbl := lw_at lw_m5 59 rfl
theorem q1119 : (Jvm.Cond.stringRef "RelicHouse$HouseReader" (79 : Nat) "vow") ∈ lw_tbl := lw_at lw_m5 60 rfl
theorem q1120 : (Jvm.Cond.methodLink "RelicHouse$HouseReader" (81 : Nat) ({ cls := "RelicHouse$HouseReader", name := "wrong", desc := "()LRelicHouse$Wrong;" } : Jvm.MethodName)) ∈ lw_all := lw_g (lw_at lw_m5 61 rfl) rfl
theorem q1121 : (Jvm.Cond.sameMethod "RelicHouse$HouseReader" "RelicHouse$Reader" "wrong" "()LRelicHouse$Wrong;") ∈ lw_all := lw_g (lw_at lw_m5 62 rfl) rfl
theorem q1123 : (Jvm.Cond.selects "RelicHouse$HouseReader" ({ cls := "RelicHouse$HouseReader", name := "wrong", desc := "()LRelicHouse$Wrong;" } : Jvm.MethodName) ({ cls := "RelicHouse$Reader", name := "wrong", desc := "()LRelicHouse$Wrong;" } : Jvm.MethodName)) ∈ lw_all := lw_g (lw_at lw_m5 64 rfl) rfl
theorem q1154 : (Jvm.Cond.methodLink "RelicHouse$HouseReader" (85 : Nat) ({ cls := "RelicHouse$HouseReader", name := "isFull", desc := "(Ljava/lang/String;)Z" } : Jvm.MethodName)) ∈ lw_all := lw_g (lw_at lw_m5 95 rfl) rfl
theorem q1155 : (Jvm.Cond.privateMethod ({ cls := "RelicHouse$HouseReader", name := "isFull", desc := "(Ljava/lang/String;)Z" } : Jvm.MethodName)) ∈ lw_tbl := lw_at lw_m5 96 rfl
theorem q1156 : (Jvm.Cond.instanceMethod ({ cls := "RelicHouse$HouseReader", name := "isFull", desc := "(Ljava/lang/String;)Z" } : Jvm.MethodName)) ∈ lw_all := lw_g (lw_at lw_m5 97 rfl) rfl
theorem q1157 : (Jvm.Cond.code ({ cls := "RelicHouse$HouseReader", name := "isFull", desc := "(Ljava/lang/String;)Z" } : Jvm.MethodName) prog_11_method_3_code (4 : Nat) (Option.some Jvm.ClassFile.FieldType.boolean)) ∈ lw_all := lw_g (lw_at lw_m5 98 rfl) rfl
theorem q1158 : (Jvm.Cond.methodLink "RelicHouse$HouseReader" (68 : Nat) ({ cls := "java/util/ArrayList", name := "size", desc := "()I" } : Jvm.MethodName)) ∈ lw_all := lw_g (lw_at lw_m5 99 rfl) rfl
theorem q1159 : (Jvm.Cond.classLink "RelicHouse$HouseReader" (89 : Nat) "RelicHouse$Wrong") ∈ lw_all := lw_g (lw_at lw_m5 100 rfl) rfl
theorem q1160 : (Jvm.Cond.methodLink "RelicHouse$HouseReader" (91 : Nat) ({ cls := "RelicHouse$Wrong", name := "<init>", desc := "(II)V" } : Jvm.MethodName)) ∈ lw_all := lw_g (lw_at lw_m5 101 rfl) rfl
theorem q1161 : (Jvm.Cond.methodLink "RelicHouse$HouseReader" (94 : Nat) ({ cls := "java/lang/String", name := "length", desc := "()I" } : Jvm.MethodName)) ∈ lw_all := lw_g (lw_at lw_m5 102 rfl) rfl
theorem q1162 : (Jvm.Cond.methodLink "RelicHouse$HouseReader" (75 : Nat) ({ cls := "RelicHouse$HouseReader", name := "number", desc := "(II)I" } : Jvm.MethodName)) ∈ lw_all := lw_g (lw_at lw_m5 103 rfl) rfl
theorem q1163 : (Jvm.Cond.sameMethod "RelicHouse$HouseReader" "RelicHouse$Reader" "number" "(II)I") ∈ lw_all := lw_g (lw_at lw_m5 104 rfl) rfl
theorem q1165 : (Jvm.Cond.selects "RelicHouse$HouseReader" ({ cls := "RelicHouse$HouseReader", name := "number", desc := "(II)I" } : Jvm.MethodName) ({ cls := "RelicHouse$Reader", name := "number", desc := "(II)I" } : Jvm.MethodName)) ∈ lw_all := lw_g (lw_at lw_m5 106 rfl) rfl
theorem q1171 : (Jvm.Cond.methodLink "RelicHouse$HouseReader" (101 : Nat) ({ cls := "RelicHouse$HouseReader", name := "sister", desc := "()I" } : Jvm.MethodName)) ∈ lw_all := lw_g (lw_at lw_m5 112 rfl) rfl
theorem q1172 : (Jvm.Cond.privateMethod ({ cls := "RelicHouse$HouseReader", name := "sister", desc := "()I" } : Jvm.MethodName)) ∈ lw_tbl := lw_at lw_m5 113 rfl
theorem q1173 : (Jvm.Cond.instanceMethod ({ cls := "RelicHouse$HouseReader", name := "sister", desc := "()I" } : Jvm.MethodName)) ∈ lw_all := lw_g (lw_at lw_m5 114 rfl) rfl
theorem q1174 : (Jvm.Cond.code ({ cls := "RelicHouse$HouseReader", name := "sister", desc := "()I" } : Jvm.MethodName) prog_11_method_4_code (1 : Nat) (Option.some Jvm.ClassFile.FieldType.int)) ∈ lw_all := lw_g (lw_at lw_m5 115 rfl) rfl
theorem q1175 : (Jvm.Cond.classLink "RelicHouse$HouseReader" (103 : Nat) "RelicHouse$Relic") ∈ lw_all := lw_g (lw_at lw_m5 116 rfl) rfl
theorem q1177 : (Jvm.Cond.methodLink "RelicHouse$HouseReader" (105 : Nat) ({ cls := "RelicHouse$Relic", name := "<init>", desc := "(III)V" } : Jvm.MethodName)) ∈ lw_all := lw_g (lw_at lw_m5 118 rfl) rfl
theorem q1198 : (Jvm.Cond.methodLink "RelicHouse$HouseReader" (108 : Nat) ({ cls := "java/util/ArrayList", name := "add", desc := "(Ljava/lang/Object;)Z" } : Jvm.MethodName)) ∈ lw_all := lw_g (lw_at lw_m5 139 rfl) rfl
theorem q1232 : (Jvm.Cond.selects "RelicHouse$HouseReader" ({ cls := "java/lang/Object", name := "getClass", desc := "()Ljava/lang/Class;" } : Jvm.MethodName) ({ cls := "java/lang/Object", name := "getClass", desc := "()Ljava/lang/Class;" } : Jvm.MethodName)) ∈ lw_all := lw_g (lw_at lw_m5 173 rfl) rfl
theorem q1263 : (Jvm.Cond.classLink "RelicHouse$HouseReader" (111 : Nat) "RelicHouse$Pilgrim") ∈ lw_all := lw_g (lw_at lw_m5 204 rfl) rfl
theorem q1265 : (Jvm.Cond.methodLink "RelicHouse$HouseReader" (113 : Nat) ({ cls := "RelicHouse$Pilgrim", name := "<init>", desc := "(II)V" } : Jvm.MethodName)) ∈ lw_all := lw_g (lw_at lw_m5 206 rfl) rfl
theorem q1280 : (Jvm.Cond.methodLink "RelicHouse$HouseReader" (39 : Nat) ({ cls := "RelicHouse$HouseReader", name := "need", desc := "(I)V" } : Jvm.MethodName)) ∈ lw_all := lw_g (lw_at lw_m5 221 rfl) rfl
theorem q1281 : (Jvm.Cond.sameMethod "RelicHouse$HouseReader" "RelicHouse$Reader" "need" "(I)V") ∈ lw_all := lw_g (lw_at lw_m5 222 rfl) rfl
theorem q1283 : (Jvm.Cond.selects "RelicHouse$HouseReader" ({ cls := "RelicHouse$HouseReader", name := "need", desc := "(I)V" } : Jvm.MethodName) ({ cls := "RelicHouse$Reader", name := "need", desc := "(I)V" } : Jvm.MethodName)) ∈ lw_all := lw_g (lw_at lw_m5 224 rfl) rfl
theorem q2587 : (Jvm.Cond.selects "RelicHouse$HouseReader" ({ cls := "RelicHouse$Reader", name := "sign", desc := "()I" } : Jvm.MethodName) ({ cls := "RelicHouse$Reader", name := "sign", desc := "()I" } : Jvm.MethodName)) ∈ lw_all := lw_g (lw_at lw_m11 88 rfl) rfl
theorem q2594 : (Jvm.Cond.selects "RelicHouse$HouseReader" ({ cls := "RelicHouse$Reader", name := "wrong", desc := "()LRelicHouse$Wrong;" } : Jvm.MethodName) ({ cls := "RelicHouse$Reader", name := "wrong", desc := "()LRelicHouse$Wrong;" } : Jvm.MethodName)) ∈ lw_all := lw_g (lw_at lw_m11 95 rfl) rfl
theorem q2619 : (Jvm.Cond.castable "RelicHouse$HouseReader" "java/lang/Object") ∈ lw_tbl := lw_at lw_m11 120 rfl
theorem in_X13 : ∀ w ∈ wsX130, w ∈ lw_all := lw_in wsX130 [991, 993, 995, 997, 999, 989] (by decide +kernel) (by decide +kernel)
/-! RelicHouse$Wrong -/
def RX14 : String := "RelicHouse$Wrong"
def TX14 : u_T := fun k => match k with
  | 0 => ("java/lang/Throwable", "cause", "Ljava/lang/Throwable;", false)
  | 1 => ("java/lang/Throwable", "stackTrace", "[Ljava/lang/StackTraceElement;", false)
  | 2 => ("java/lang/Throwable", "suppressedExceptions", "Ljava/util/List;", false)
  | 3 => ("java/lang/Throwable", "detailMessage", "Ljava/lang/String;", false)
  | 4 => ("java/lang/Throwable", "backtrace", "Ljava/lang/Object;", false)
  | 5 => ("java/lang/Throwable", "depth", "I", false)
  | 6 => ("RelicHouse$Wrong", "kind", "I", true)
  | _ => ("RelicHouse$Wrong", "place", "I", true)
def tyX14 : Nat → FieldType := fun k => match k with
  | 0 => .object "java/lang/Throwable"
  | 1 => .array (.object "java/lang/StackTraceElement")
  | 2 => .object "java/util/List"
  | 3 => .object "java/lang/String"
  | 4 => .object "java/lang/Object"
  | 5 => .int
  | 6 => .int
  | _ => .int
abbrev wsX140 : List Cond := u_ws RX14 TX14 8
theorem nmX14 : ∀ a, a < 8 → ∀ b, b < 8 → a ≠ b → (TX14 a).2.1 ≠ (TX14 b).2.1 := by decide +kernel
theorem tyX14_ok : ∀ k, k < 8 → parseFieldDescriptor (TX14 k).2.2.1 = some (tyX14 k) := by decide +kernel
abbrev cX14_init : ByteArray := prog_31_method_1_code
def yX14_init : MethodName := ⟨RX14, "<init>", "(II)V"⟩
theorem q132 : (Jvm.Cond.initialized "RelicHouse$Wrong") ∈ lw_all := lw_g (lw_at lw_m1 33 rfl) rfl
theorem q216 : (Jvm.Cond.selects "RelicHouse$Wrong" ({ cls := "java/lang/Throwable", name := "fillInStackTrace", desc := "()Ljava/lang/Throwable;" } : Jvm.MethodName) ({ cls := "java/lang/Throwable", name := "fillInStackTrace", desc := "()Ljava/lang/Throwable;" } : Jvm.MethodName)) ∈ lw_all := lw_g (lw_at lw_m1 117 rfl) rfl
theorem q1127 : (Jvm.Cond.instantiable "RelicHouse$Wrong" (8 : Nat)) ∈ lw_all := lw_g (lw_at lw_m5 68 rfl) rfl
theorem q1128 : (Jvm.Cond.castable "RelicHouse$Wrong" "RelicHouse$Wrong") ∈ lw_tbl := lw_at lw_m5 69 rfl
theorem q1129 : (Jvm.Cond.selects "RelicHouse$Wrong" ({ cls := "java/lang/Throwable", name := "fillInStackTrace", desc := "(I)Ljava/lang/Throwable;" } : Jvm.MethodName) ({ cls := "java/lang/Throwable", name := "fillInStackTrace", desc := "(I)Ljava/lang/Throwable;" } : Jvm.MethodName)) ∈ lw_all := lw_g (lw_at lw_m5 70 rfl) rfl
theorem q1130 : (Jvm.Cond.lays "RelicHouse$Wrong" "java/lang/Throwable" "cause" "Ljava/lang/Throwable;") ∈ lw_all := lw_g (lw_at lw_m5 71 rfl) rfl
theorem q1131 : (Jvm.Cond.lays "RelicHouse$Wrong" "java/lang/Throwable" "stackTrace" "[Ljava/lang/StackTraceElement;") ∈ lw_all := lw_g (lw_at lw_m5 72 rfl) rfl
theorem q1132 : (Jvm.Cond.lays "RelicHouse$Wrong" "java/lang/Throwable" "suppressedExceptions" "Ljava/util/List;") ∈ lw_all := lw_g (lw_at lw_m5 73 rfl) rfl
theorem q1133 : (Jvm.Cond.lays "RelicHouse$Wrong" "java/lang/Throwable" "detailMessage" "Ljava/lang/String;") ∈ lw_all := lw_g (lw_at lw_m5 74 rfl) rfl
theorem q1134 : (Jvm.Cond.lays "RelicHouse$Wrong" "java/lang/Throwable" "backtrace" "Ljava/lang/Object;") ∈ lw_all := lw_g (lw_at lw_m5 75 rfl) rfl
theorem q1136 : (Jvm.Cond.instanceMethod ({ cls := "RelicHouse$Wrong", name := "<init>", desc := "(II)V" } : Jvm.MethodName)) ∈ lw_all := lw_g (lw_at lw_m5 77 rfl) rfl
theorem q1137 : (Jvm.Cond.code ({ cls := "RelicHouse$Wrong", name := "<init>", desc := "(II)V" } : Jvm.MethodName) prog_31_method_1_code (3 : Nat) (Option.none : Option Jvm.ClassFile.FieldType)) ∈ lw_all := lw_g (lw_at lw_m5 78 rfl) rfl
theorem q1138 : (Jvm.Cond.methodLink "RelicHouse$Wrong" (1 : Nat) ({ cls := "java/lang/Exception", name := "<init>", desc := "(Ljava/lang/String;Ljava/lang/Throwable;ZZ)V" } : Jvm.MethodName)) ∈ lw_all := lw_g (lw_at lw_m5 79 rfl) rfl
theorem q1144 : (Jvm.Cond.fieldLink "RelicHouse$Wrong" (7 : Nat) "RelicHouse$Wrong" "kind" "I") ∈ lw_all := lw_g (lw_at lw_m5 85 rfl) rfl
theorem q1146 : (Jvm.Cond.fieldLink "RelicHouse$Wrong" (13 : Nat) "RelicHouse$Wrong" "place" "I") ∈ lw_all := lw_g (lw_at lw_m5 87 rfl) rfl
theorem q1148 : (Jvm.Cond.laysFinal "RelicHouse$Wrong" "RelicHouse$Wrong" "kind" "I") ∈ lw_all := lw_g (lw_at lw_m5 89 rfl) rfl
theorem q1149 : (Jvm.Cond.soleField "RelicHouse$Wrong" "kind") ∈ lw_all := lw_g (lw_at lw_m5 90 rfl) rfl
theorem q1150 : (Jvm.Cond.laysFinal "RelicHouse$Wrong" "RelicHouse$Wrong" "place" "I") ∈ lw_all := lw_g (lw_at lw_m5 91 rfl) rfl
theorem q1151 : (Jvm.Cond.soleField "RelicHouse$Wrong" "place") ∈ lw_all := lw_g (lw_at lw_m5 92 rfl) rfl
theorem q1152 : (Jvm.Cond.lays "RelicHouse$Wrong" "java/lang/Throwable" "depth" "I") ∈ lw_all := lw_g (lw_at lw_m5 93 rfl) rfl
theorem q1153 : (Jvm.Cond.superclass "RelicHouse$Wrong" "java/lang/Exception") ∈ lw_all := lw_g (lw_at lw_m5 94 rfl) rfl
theorem q1248 : (Jvm.Cond.selects "RelicHouse$Wrong" ({ cls := "java/lang/Object", name := "getClass", desc := "()Ljava/lang/Class;" } : Jvm.MethodName) ({ cls := "java/lang/Object", name := "getClass", desc := "()Ljava/lang/Class;" } : Jvm.MethodName)) ∈ lw_all := lw_g (lw_at lw_m5 189 rfl) rfl
theorem q2621 : (Jvm.Cond.castable "RelicHouse$Wrong" "java/lang/Object") ∈ lw_tbl := lw_at lw_m11 122 rfl
theorem in_X14 : ∀ w ∈ wsX140, w ∈ lw_all := lw_in wsX140 [1130, 1131, 1132, 1133, 1134, 1152, 1148, 1150] (by decide +kernel) (by decide +kernel)
/-! RelicHouse$Relic -/
def RX15 : String := "RelicHouse$Relic"
def TX15 : u_T := fun k => match k with
  | 0 => ("RelicHouse$Relic", "sister", "I", true)
  | 1 => ("RelicHouse$Relic", "ill", "I", true)
  | _ => ("RelicHouse$Relic", "worth", "I", true)
def tyX15 : Nat → FieldType := fun k => match k with
  | 0 => .int
  | 1 => .int
  | _ => .int
abbrev wsX150 : List Cond := u_ws RX15 TX15 3
theorem nmX15 : ∀ a, a < 3 → ∀ b, b < 3 → a ≠ b → (TX15 a).2.1 ≠ (TX15 b).2.1 := by decide +kernel
theorem tyX15_ok : ∀ k, k < 3 → parseFieldDescriptor (TX15 k).2.2.1 = some (tyX15 k) := by decide +kernel
abbrev cX15_init : ByteArray := prog_23_method_1_code
def yX15_init : MethodName := ⟨RX15, "<init>", "(III)V"⟩
theorem q133 : (Jvm.Cond.initialized "RelicHouse$Relic") ∈ lw_all := lw_g (lw_at lw_m1 34 rfl) rfl
theorem q1176 : (Jvm.Cond.instantiable "RelicHouse$Relic" (3 : Nat)) ∈ lw_all := lw_g (lw_at lw_m5 117 rfl) rfl
theorem q1178 : (Jvm.Cond.instanceMethod ({ cls := "RelicHouse$Relic", name := "<init>", desc := "(III)V" } : Jvm.MethodName)) ∈ lw_all := lw_g (lw_at lw_m5 119 rfl) rfl
theorem q1179 : (Jvm.Cond.code ({ cls := "RelicHouse$Relic", name := "<init>", desc := "(III)V" } : Jvm.MethodName) prog_23_method_1_code (4 : Nat) (Option.none : Option Jvm.ClassFile.FieldType)) ∈ lw_all := lw_g (lw_at lw_m5 120 rfl) rfl
theorem q1180 : (Jvm.Cond.methodLink "RelicHouse$Relic" (1 : Nat) ({ cls := "java/lang/Object", name := "<init>", desc := "()V" } : Jvm.MethodName)) ∈ lw_all := lw_g (lw_at lw_m5 121 rfl) rfl
theorem q1181 : (Jvm.Cond.fieldLink "RelicHouse$Relic" (7 : Nat) "RelicHouse$Relic" "sister" "I") ∈ lw_all := lw_g (lw_at lw_m5 122 rfl) rfl
theorem q1185 : (Jvm.Cond.fieldLink "RelicHouse$Relic" (13 : Nat) "RelicHouse$Relic" "ill" "I") ∈ lw_all := lw_g (lw_at lw_m5 126 rfl) rfl
theorem q1188 : (Jvm.Cond.fieldLink "RelicHouse$Relic" (16 : Nat) "RelicHouse$Relic" "worth" "I") ∈ lw_all := lw_g (lw_at lw_m5 129 rfl) rfl
theorem q1191 : (Jvm.Cond.laysFinal "RelicHouse$Relic" "RelicHouse$Relic" "sister" "I") ∈ lw_all := lw_g (lw_at lw_m5 132 rfl) rfl
theorem q1192 : (Jvm.Cond.soleField "RelicHouse$Relic" "sister") ∈ lw_all := lw_g (lw_at lw_m5 133 rfl) rfl
theorem q1193 : (Jvm.Cond.laysFinal "RelicHouse$Relic" "RelicHouse$Relic" "ill" "I") ∈ lw_all := lw_g (lw_at lw_m5 134 rfl) rfl
theorem q1194 : (Jvm.Cond.soleField "RelicHouse$Relic" "ill") ∈ lw_all := lw_g (lw_at lw_m5 135 rfl) rfl
theorem q1195 : (Jvm.Cond.laysFinal "RelicHouse$Relic" "RelicHouse$Relic" "worth" "I") ∈ lw_all := lw_g (lw_at lw_m5 136 rfl) rfl
theorem q1196 : (Jvm.Cond.soleField "RelicHouse$Relic" "worth") ∈ lw_all := lw_g (lw_at lw_m5 137 rfl) rfl
theorem q1197 : (Jvm.Cond.superclass "RelicHouse$Relic" "java/lang/Object") ∈ lw_all := lw_g (lw_at lw_m5 138 rfl) rfl
theorem q1243 : (Jvm.Cond.selects "RelicHouse$Relic" ({ cls := "java/lang/Object", name := "getClass", desc := "()Ljava/lang/Class;" } : Jvm.MethodName) ({ cls := "java/lang/Object", name := "getClass", desc := "()Ljava/lang/Class;" } : Jvm.MethodName)) ∈ lw_all := lw_g (lw_at lw_m5 184 rfl) rfl
theorem q2622 : (Jvm.Cond.castable "RelicHouse$Relic" "java/lang/Object") ∈ lw_tbl := lw_at lw_m11 123 rfl
theorem in_X15 : ∀ w ∈ wsX150, w ∈ lw_all := lw_in wsX150 [1191, 1193, 1195] (by decide +kernel) (by decide +kernel)
/-! RelicHouse$Pilgrim -/
def RX16 : String := "RelicHouse$Pilgrim"
def TX16 : u_T := fun k => match k with
  | 0 => ("RelicHouse$Pilgrim", "ill", "I", true)
  | _ => ("RelicHouse$Pilgrim", "need", "I", true)
def tyX16 : Nat → FieldType := fun k => match k with
  | 0 => .int
  | _ => .int
abbrev wsX160 : List Cond := u_ws RX16 TX16 2
theorem nmX16 : ∀ a, a < 2 → ∀ b, b < 2 → a ≠ b → (TX16 a).2.1 ≠ (TX16 b).2.1 := by decide +kernel
theorem tyX16_ok : ∀ k, k < 2 → parseFieldDescriptor (TX16 k).2.2.1 = some (tyX16 k) := by decide +kernel
abbrev cX16_init : ByteArray := prog_19_method_1_code
def yX16_init : MethodName := ⟨RX16, "<init>", "(II)V"⟩
theorem q134 : (Jvm.Cond.initialized "RelicHouse$Pilgrim") ∈ lw_all := lw_g (lw_at lw_m1 35 rfl) rfl
theorem q1240 : (Jvm.Cond.selects "RelicHouse$Pilgrim" ({ cls := "java/lang/Object", name := "getClass", desc := "()Ljava/lang/Class;" } : Jvm.MethodName) ({ cls := "java/lang/Object", name := "getClass", desc := "()Ljava/lang/Class;" } : Jvm.MethodName)) ∈ lw_all := lw_g (lw_at lw_m5 181 rfl) rfl
theorem q1264 : (Jvm.Cond.instantiable "RelicHouse$Pilgrim" (2 : Nat)) ∈ lw_all := lw_g (lw_at lw_m5 205 rfl) rfl
theorem q1266 : (Jvm.Cond.instanceMethod ({ cls := "RelicHouse$Pilgrim", name := "<init>", desc := "(II)V" } : Jvm.MethodName)) ∈ lw_all := lw_g (lw_at lw_m5 207 rfl) rfl
theorem q1267 : (Jvm.Cond.code ({ cls := "RelicHouse$Pilgrim", name := "<init>", desc := "(II)V" } : Jvm.MethodName) prog_19_method_1_code (3 : Nat) (Option.none : Option Jvm.ClassFile.FieldType)) ∈ lw_all := lw_g (lw_at lw_m5 208 rfl) rfl
theorem q1268 : (Jvm.Cond.methodLink "RelicHouse$Pilgrim" (1 : Nat) ({ cls := "java/lang/Object", name := "<init>", desc := "()V" } : Jvm.MethodName)) ∈ lw_all := lw_g (lw_at lw_m5 209 rfl) rfl
theorem q1269 : (Jvm.Cond.fieldLink "RelicHouse$Pilgrim" (7 : Nat) "RelicHouse$Pilgrim" "ill" "I") ∈ lw_all := lw_g (lw_at lw_m5 210 rfl) rfl
theorem q1272 : (Jvm.Cond.fieldLink "RelicHouse$Pilgrim" (13 : Nat) "RelicHouse$Pilgrim" "need" "I") ∈ lw_all := lw_g (lw_at lw_m5 213 rfl) rfl
theorem q1275 : (Jvm.Cond.laysFinal "RelicHouse$Pilgrim" "RelicHouse$Pilgrim" "ill" "I") ∈ lw_all := lw_g (lw_at lw_m5 216 rfl) rfl
theorem q1276 : (Jvm.Cond.soleField "RelicHouse$Pilgrim" "ill") ∈ lw_all := lw_g (lw_at lw_m5 217 rfl) rfl
theorem q1277 : (Jvm.Cond.laysFinal "RelicHouse$Pilgrim" "RelicHouse$Pilgrim" "need" "I") ∈ lw_all := lw_g (lw_at lw_m5 218 rfl) rfl
theorem q1278 : (Jvm.Cond.soleField "RelicHouse$Pilgrim" "need") ∈ lw_all := lw_g (lw_at lw_m5 219 rfl) rfl
theorem q1279 : (Jvm.Cond.superclass "RelicHouse$Pilgrim" "java/lang/Object") ∈ lw_all := lw_g (lw_at lw_m5 220 rfl) rfl
theorem q2623 : (Jvm.Cond.castable "RelicHouse$Pilgrim" "java/lang/Object") ∈ lw_tbl := lw_at lw_m11 124 rfl
theorem in_X16 : ∀ w ∈ wsX160, w ∈ lw_all := lw_in wsX160 [1275, 1277] (by decide +kernel) (by decide +kernel)
/-! RelicHouse$LawReader -/
def RX17 : String := "RelicHouse$LawReader"
def TX17 : u_T := fun k => match k with
  | 0 => ("RelicHouse$Reader", "text", "[B", true)
  | 1 => ("RelicHouse$Reader", "size", "I", true)
  | 2 => ("RelicHouse$Reader", "next", "I", false)
  | 3 => ("RelicHouse$Reader", "from", "I", false)
  | _ => ("RelicHouse$Reader", "open", "I", false)
def tyX17 : Nat → FieldType := fun k => match k with
  | 0 => .array .byte
  | 1 => .int
  | 2 => .int
  | 3 => .int
  | _ => .int
abbrev wsX170 : List Cond := u_ws RX17 TX17 5
theorem nmX17 : ∀ a, a < 5 → ∀ b, b < 5 → a ≠ b → (TX17 a).2.1 ≠ (TX17 b).2.1 := by decide +kernel
theorem tyX17_ok : ∀ k, k < 5 → parseFieldDescriptor (TX17 k).2.2.1 = some (tyX17 k) := by decide +kernel
abbrev cX17_init : ByteArray := prog_13_method_1_code
def yX17_init : MethodName := ⟨RX17, "<init>", "([BI)V"⟩
abbrev cX17_reads : ByteArray := prog_13_method_2_code
def yX17_reads : MethodName := ⟨RX17, "reads", "()LRelicHouse$Term;"⟩
abbrev cX17_sum : ByteArray := prog_13_method_3_code
def yX17_sum : MethodName := ⟨RX17, "sum", "()LRelicHouse$Term;"⟩
abbrev cX17_product : ByteArray := prog_13_method_4_code
def yX17_product : MethodName := ⟨RX17, "product", "()LRelicHouse$Term;"⟩
abbrev cX17_unit : ByteArray := prog_13_method_5_code
def yX17_unit : MethodName := ⟨RX17, "unit", "()LRelicHouse$Term;"⟩
abbrev cX17_fact : ByteArray := prog_13_method_6_code
def yX17_fact : MethodName := ⟨RX17, "fact", "(Ljava/lang/String;I)LRelicHouse$Term;"⟩
abbrev cX17_two : ByteArray := prog_13_method_7_code
def yX17_two : MethodName := ⟨RX17, "two", "(Ljava/lang/String;)LRelicHouse$Term;"⟩
theorem q135 : (Jvm.Cond.initialized "RelicHouse$LawReader") ∈ lw_all := lw_g (lw_at lw_m1 36 rfl) rfl
theorem q966 : (Jvm.Cond.fieldLink "RelicHouse$LawReader" (23 : Nat) "RelicHouse$LawReader" "size" "I") ∈ lw_all := lw_g (lw_at lw_m4 147 rfl) rfl
theorem q967 : (Jvm.Cond.sameField "RelicHouse$LawReader" "RelicHouse$Reader" "size" "I") ∈ lw_all := lw_g (lw_at lw_m4 148 rfl) rfl
theorem q975 : (Jvm.Cond.fieldLink "RelicHouse$LawReader" (19 : Nat) "RelicHouse$LawReader" "next" "I") ∈ lw_all := lw_g (lw_at lw_m4 156 rfl) rfl
theorem q976 : (Jvm.Cond.sameField "RelicHouse$LawReader" "RelicHouse$Reader" "next" "I") ∈ lw_all := lw_g (lw_at lw_m4 157 rfl) rfl
theorem q984 : (Jvm.Cond.fieldLink "RelicHouse$LawReader" (60 : Nat) "RelicHouse$LawReader" "open" "I") ∈ lw_all := lw_g (lw_at lw_m4 165 rfl) rfl
theorem q985 : (Jvm.Cond.sameField "RelicHouse$LawReader" "RelicHouse$Reader" "open" "I") ∈ lw_all := lw_g (lw_at lw_m4 166 rfl) rfl
theorem q1234 : (Jvm.Cond.selects "RelicHouse$LawReader" ({ cls := "java/lang/Object", name := "getClass", desc := "()Ljava/lang/Class;" } : Jvm.MethodName) ({ cls := "java/lang/Object", name := "getClass", desc := "()Ljava/lang/Class;" } : Jvm.MethodName)) ∈ lw_all := lw_g (lw_at lw_m5 175 rfl) rfl
theorem q1298 : (Jvm.Cond.instantiable "RelicHouse$LawReader" (5 : Nat)) ∈ lw_all := lw_g (lw_at lw_m5 239 rfl) rfl
theorem q1300 : (Jvm.Cond.instanceMethod ({ cls := "RelicHouse$LawReader", name := "<init>", desc := "([BI)V" } : Jvm.MethodName)) ∈ lw_all := lw_g (lw_at lw_m6 1 rfl) rfl
theorem q1301 : (Jvm.Cond.code ({ cls := "RelicHouse$LawReader", name := "<init>", desc := "([BI)V" } : Jvm.MethodName) prog_13_method_1_code (3 : Nat) (Option.none : Option Jvm.ClassFile.FieldType)) ∈ lw_all := lw_g (lw_at lw_m6 2 rfl) rfl
theorem q1302 : (Jvm.Cond.methodLink "RelicHouse$LawReader" (3 : Nat) ({ cls := "RelicHouse$Reader", name := "<init>", desc := "([BI)V" } : Jvm.MethodName)) ∈ lw_all := lw_g (lw_at lw_m6 3 rfl) rfl
theorem q1303 : (Jvm.Cond.laysFinal "RelicHouse$LawReader" "RelicHouse$Reader" "text" "[B") ∈ lw_all := lw_g (lw_at lw_m6 4 rfl) rfl
theorem q1304 : (Jvm.Cond.laysFinal "RelicHouse$LawReader" "RelicHouse$Reader" "size" "I") ∈ lw_all := lw_g (lw_at lw_m6 5 rfl) rfl
theorem q1305 : (Jvm.Cond.lays "RelicHouse$LawReader" "RelicHouse$Reader" "next" "I") ∈ lw_all := lw_g (lw_at lw_m6 6 rfl) rfl
theorem q1306 : (Jvm.Cond.lays "RelicHouse$LawReader" "RelicHouse$Reader" "from" "I") ∈ lw_all := lw_g (lw_at lw_m6 7 rfl) rfl
theorem q1307 : (Jvm.Cond.lays "RelicHouse$LawReader" "RelicHouse$Reader" "open" "I") ∈ lw_all := lw_g (lw_at lw_m6 8 rfl) rfl
theorem q1308 : (Jvm.Cond.superclass "RelicHouse$LawReader" "RelicHouse$Reader") ∈ lw_all := lw_g (lw_at lw_m6 9 rfl) rfl
theorem q1310 : (Jvm.Cond.instanceMethod ({ cls := "RelicHouse$LawReader", name := "reads", desc := "()LRelicHouse$Term;" } : Jvm.MethodName)) ∈ lw_all := lw_g (lw_at lw_m6 11 rfl) rfl
theorem q1311 : (Jvm.Cond.selects "RelicHouse$LawReader" ({ cls := "RelicHouse$LawReader", name := "reads", desc := "()LRelicHouse$Term;" } : Jvm.MethodName) ({ cls := "RelicHouse$LawReader", name := "reads", desc := "()LRelicHouse$Term;" } : Jvm.MethodName)) ∈ lw_all := lw_g (lw_at lw_m6 12 rfl) rfl
theorem q1312 : (Jvm.Cond.code ({ cls := "RelicHouse$LawReader", name := "reads", desc := "()LRelicHouse$Term;" } : Jvm.MethodName) prog_13_method_2_code (2 : Nat) (Option.some (Jvm.ClassFile.FieldType.object "RelicHouse$Term"))) ∈ lw_all := lw_g (lw_at lw_m6 13 rfl) rfl
theorem q1313 : (Jvm.Cond.methodLink "RelicHouse$LawReader" (9 : Nat) ({ cls := "RelicHouse$LawReader", name := "sum", desc := "()LRelicHouse$Term;" } : Jvm.MethodName)) ∈ lw_all := lw_g (lw_at lw_m6 14 rfl) rfl
theorem q1314 : (Jvm.Cond.privateMethod ({ cls := "RelicHouse$LawReader", name := "sum", desc := "()LRelicHouse$Term;" } : Jvm.MethodName)) ∈ lw_tbl := lw_at lw_m6 15 rfl
theorem q1315 : (Jvm.Cond.instanceMethod ({ cls := "RelicHouse$LawReader", name := "sum", desc := "()LRelicHouse$Term;" } : Jvm.MethodName)) ∈ lw_all := lw_g (lw_at lw_m6 16 rfl) rfl
theorem q1316 : (Jvm.Cond.code ({ cls := "RelicHouse$LawReader", name := "sum", desc := "()LRelicHouse$Term;" } : Jvm.MethodName) prog_13_method_3_code (4 : Nat) (Option.some (Jvm.ClassFile.FieldType.object "RelicHouse$Term"))) ∈ lw_all := lw_g (lw_at lw_m6 17 rfl) rfl
theorem q1317 : (Jvm.Cond.methodLink "RelicHouse$LawReader" (30 : Nat) ({ cls := "RelicHouse$LawReader", name := "product", desc := "()LRelicHouse$Term;" } : Jvm.MethodName)) ∈ lw_all := lw_g (lw_at lw_m6 18 rfl) rfl
theorem q1318 : (Jvm.Cond.privateMethod ({ cls := "RelicHouse$LawReader", name := "product", desc := "()LRelicHouse$Term;" } : Jvm.MethodName)) ∈ lw_tbl := lw_at lw_m6 19 rfl
theorem q1319 : (Jvm.Cond.instanceMethod ({ cls := "RelicHouse$LawReader", name := "product", desc := "()LRelicHouse$Term;" } : Jvm.MethodName)) ∈ lw_all := lw_g (lw_at lw_m6 20 rfl) rfl
theorem q1320 : (Jvm.Cond.code ({ cls := "RelicHouse$LawReader", name := "product", desc := "()LRelicHouse$Term;" } : Jvm.MethodName) prog_13_method_4_code (4 : Nat) (Option.some (Jvm.ClassFile.FieldType.object "RelicHouse$Term"))) ∈ lw_all := lw_g (lw_at lw_m6 21 rfl) rfl
theorem q1321 : (Jvm.Cond.methodLink "RelicHouse$LawReader" (41 : Nat) ({ cls := "RelicHouse$LawReader", name := "unit", desc := "()LRelicHouse$Term;" } : Jvm.MethodName)) ∈ lw_all := lw_g (lw_at lw_m6 22 rfl) rfl
theorem q1322 : (Jvm.Cond.privateMethod ({ cls := "RelicHouse$LawReader", name := "unit", desc := "()LRelicHouse$Term;" } : Jvm.MethodName)) ∈ lw_tbl := lw_at lw_m6 23 rfl
theorem q1323 : (Jvm.Cond.instanceMethod ({ cls := "RelicHouse$LawReader", name := "unit", desc := "()LRelicHouse$Term;" } : Jvm.MethodName)) ∈ lw_all := lw_g (lw_at lw_m6 24 rfl) rfl
theorem q1324 : (Jvm.Cond.code ({ cls := "RelicHouse$LawReader", name := "unit", desc := "()LRelicHouse$Term;" } : Jvm.MethodName) prog_13_method_5_code (5 : Nat) (Option.some (Jvm.ClassFile.FieldType.object "RelicHouse$Term"))) ∈ lw_all := lw_g (lw_at lw_m6 25 rfl) rfl
theorem q1325 : (Jvm.Cond.methodLink "RelicHouse$LawReader" (15 : Nat) ({ cls := "RelicHouse$LawReader", name := "sign", desc := "()I" } : Jvm.MethodName)) ∈ lw_all := lw_g (lw_at lw_m6 26 rfl) rfl
theorem q1326 : (Jvm.Cond.sameMethod "RelicHouse$LawReader" "RelicHouse$Reader" "sign" "()I") ∈ lw_all := lw_g (lw_at lw_m6 27 rfl) rfl
theorem q1327 : (Jvm.Cond.selects "RelicHouse$LawReader" ({ cls := "RelicHouse$LawReader", name := "sign", desc := "()I" } : Jvm.MethodName) ({ cls := "RelicHouse$Reader", name := "sign", desc := "()I" } : Jvm.MethodName)) ∈ lw_all := lw_g (lw_at lw_m6 28 rfl) rfl
theorem q1328 : (Jvm.Cond.methodLink "RelicHouse$LawReader" (53 : Nat) ({ cls := "RelicHouse$LawReader", name := "opens", desc := "(I)V" } : Jvm.MethodName)) ∈ lw_all := lw_g (lw_at lw_m6 29 rfl) rfl
theorem q1329 : (Jvm.Cond.sameMethod "RelicHouse$LawReader" "RelicHouse$Reader" "opens" "(I)V") ∈ lw_all := lw_g (lw_at lw_m6 30 rfl) rfl
theorem q1331 : (Jvm.Cond.selects "RelicHouse$LawReader" ({ cls := "RelicHouse$LawReader", name := "opens", desc := "(I)V" } : Jvm.MethodName) ({ cls := "RelicHouse$Reader", name := "opens", desc := "(I)V" } : Jvm.MethodName)) ∈ lw_all := lw_g (lw_at lw_m6 32 rfl) rfl
theorem q1334 : (Jvm.Cond.methodLink "RelicHouse$LawReader" (57 : Nat) ({ cls := "RelicHouse$LawReader", name := "need", desc := "(I)V" } : Jvm.MethodName)) ∈ lw_all := lw_g (lw_at lw_m6 35 rfl) rfl
theorem q1335 : (Jvm.Cond.sameMethod "RelicHouse$LawReader" "RelicHouse$Reader" "need" "(I)V") ∈ lw_all := lw_g (lw_at lw_m6 36 rfl) rfl
theorem q1336 : (Jvm.Cond.selects "RelicHouse$LawReader" ({ cls := "RelicHouse$LawReader", name := "need", desc := "(I)V" } : Jvm.MethodName) ({ cls := "RelicHouse$Reader", name := "need", desc := "(I)V" } : Jvm.MethodName)) ∈ lw_all := lw_g (lw_at lw_m6 37 rfl) rfl
theorem q1337 : (Jvm.Cond.classLink "RelicHouse$LawReader" (63 : Nat) "RelicHouse$Plain") ∈ lw_all := lw_g (lw_at lw_m6 38 rfl) rfl
theorem q1338 : (Jvm.Cond.methodLink "RelicHouse$LawReader" (65 : Nat) ({ cls := "RelicHouse$LawReader", name := "number", desc := "(II)I" } : Jvm.MethodName)) ∈ lw_all := lw_g (lw_at lw_m6 39 rfl) rfl
theorem q1339 : (Jvm.Cond.sameMethod "RelicHouse$LawReader" "RelicHouse$Reader" "number" "(II)I") ∈ lw_all := lw_g (lw_at lw_m6 40 rfl) rfl
theorem q1340 : (Jvm.Cond.selects "RelicHouse$LawReader" ({ cls := "RelicHouse$LawReader", name := "number", desc := "(II)I" } : Jvm.MethodName) ({ cls := "RelicHouse$Reader", name := "number", desc := "(II)I" } : Jvm.MethodName)) ∈ lw_all := lw_g (lw_at lw_m6 41 rfl) rfl
theorem q1341 : (Jvm.Cond.methodLink "RelicHouse$LawReader" (69 : Nat) ({ cls := "RelicHouse$Plain", name := "<init>", desc := "(I)V" } : Jvm.MethodName)) ∈ lw_all := lw_g (lw_at lw_m6 42 rfl) rfl
theorem q1342 : (Jvm.Cond.methodLink "RelicHouse$LawReader" (71 : Nat) ({ cls := "RelicHouse$LawReader", name := "word", desc := "()Ljava/lang/String;" } : Jvm.MethodName)) ∈ lw_all := lw_g (lw_at lw_m6 43 rfl) rfl
theorem q1343 : (Jvm.Cond.sameMethod "RelicHouse$LawReader" "RelicHouse$Reader" "word" "()Ljava/lang/String;") ∈ lw_all := lw_g (lw_at lw_m6 44 rfl) rfl
theorem q1344 : (Jvm.Cond.selects "RelicHouse$LawReader" ({ cls := "RelicHouse$LawReader", name := "word", desc := "()Ljava/lang/String;" } : Jvm.MethodName) ({ cls := "RelicHouse$Reader", name := "word", desc := "()Ljava/lang/String;" } : Jvm.MethodName)) ∈ lw_all := lw_g (lw_at lw_m6 45 rfl) rfl
theorem q1345 : (Jvm.Cond.methodLink "RelicHouse$LawReader" (75 : Nat) ({ cls := "java/lang/String", name := "hashCode", desc := "()I" } : Jvm.MethodName)) ∈ lw_all := lw_g (lw_at lw_m6 46 rfl) rfl
theorem q1346 : (Jvm.Cond.stringRef "RelicHouse$LawReader" (80 : Nat) "worth") ∈ lw_tbl := lw_at lw_m6 47 rfl
theorem q1347 : (Jvm.Cond.methodLink "RelicHouse$LawReader" (82 : Nat) ({ cls := "java/lang/String", name := "equals", desc := "(Ljava/lang/Object;)Z" } : Jvm.MethodName)) ∈ lw_all := lw_g (lw_at lw_m6 48 rfl) rfl
theorem q1348 : (Jvm.Cond.stringRef "RelicHouse$LawReader" (86 : Nat) "days") ∈ lw_tbl := lw_at lw_m6 49 rfl
theorem q1349 : (Jvm.Cond.stringRef "RelicHouse$LawReader" (88 : Nat) "lapses") ∈ lw_tbl := lw_at lw_m6 50 rfl
theorem q1350 : (Jvm.Cond.stringRef "RelicHouse$LawReader" (90 : Nat) "tempted") ∈ lw_tbl := lw_at lw_m6 51 rfl
theorem q1351 : (Jvm.Cond.stringRef "RelicHouse$LawReader" (92 : Nat) "ill") ∈ lw_tbl := lw_at lw_m6 52 rfl
theorem q1352 : (Jvm.Cond.stringRef "RelicHouse$LawReader" (94 : Nat) "others") ∈ lw_tbl := lw_at lw_m6 53 rfl
theorem q1353 : (Jvm.Cond.stringRef "RelicHouse$LawReader" (96 : Nat) "sister") ∈ lw_tbl := lw_at lw_m6 54 rfl
theorem q1354 : (Jvm.Cond.stringRef "RelicHouse$LawReader" (98 : Nat) "day") ∈ lw_tbl := lw_at lw_m6 55 rfl
theorem q1355 : (Jvm.Cond.stringRef "RelicHouse$LawReader" (100 : Nat) "least") ∈ lw_tbl := lw_at lw_m6 56 rfl
theorem q1356 : (Jvm.Cond.stringRef "RelicHouse$LawReader" (102 : Nat) "most") ∈ lw_tbl := lw_at lw_m6 57 rfl
theorem q1357 : (Jvm.Cond.methodLink "RelicHouse$LawReader" (104 : Nat) ({ cls := "RelicHouse$LawReader", name := "fact", desc := "(Ljava/lang/String;I)LRelicHouse$Term;" } : Jvm.MethodName)) ∈ lw_all := lw_g (lw_at lw_m6 58 rfl) rfl
theorem q1358 : (Jvm.Cond.privateMethod ({ cls := "RelicHouse$LawReader", name := "fact", desc := "(Ljava/lang/String;I)LRelicHouse$Term;" } : Jvm.MethodName)) ∈ lw_tbl := lw_at lw_m6 59 rfl
theorem q1359 : (Jvm.Cond.instanceMethod ({ cls := "RelicHouse$LawReader", name := "fact", desc := "(Ljava/lang/String;I)LRelicHouse$Term;" } : Jvm.MethodName)) ∈ lw_all := lw_g (lw_at lw_m6 60 rfl) rfl
theorem q1360 : (Jvm.Cond.code ({ cls := "RelicHouse$LawReader", name := "fact", desc := "(Ljava/lang/String;I)LRelicHouse$Term;" } : Jvm.MethodName) prog_13_method_6_code (3 : Nat) (Option.some (Jvm.ClassFile.FieldType.object "RelicHouse$Term"))) ∈ lw_all := lw_g (lw_at lw_m6 61 rfl) rfl
theorem q1361 : (Jvm.Cond.methodLink "RelicHouse$LawReader" (112 : Nat) ({ cls := "java/lang/String", name := "length", desc := "()I" } : Jvm.MethodName)) ∈ lw_all := lw_g (lw_at lw_m6 62 rfl) rfl
theorem q1362 : (Jvm.Cond.classLink "RelicHouse$LawReader" (115 : Nat) "RelicHouse$Fact") ∈ lw_all := lw_g (lw_at lw_m6 63 rfl) rfl
theorem q1363 : (Jvm.Cond.methodLink "RelicHouse$LawReader" (117 : Nat) ({ cls := "RelicHouse$Fact", name := "<init>", desc := "(I)V" } : Jvm.MethodName)) ∈ lw_all := lw_g (lw_at lw_m6 64 rfl) rfl
theorem q1364 : (Jvm.Cond.methodLink "RelicHouse$LawReader" (108 : Nat) ({ cls := "RelicHouse$LawReader", name := "two", desc := "(Ljava/lang/String;)LRelicHouse$Term;" } : Jvm.MethodName)) ∈ lw_all := lw_g (lw_at lw_m6 65 rfl) rfl
theorem q1365 : (Jvm.Cond.privateMethod ({ cls := "RelicHouse$LawReader", name := "two", desc := "(Ljava/lang/String;)LRelicHouse$Term;" } : Jvm.MethodName)) ∈ lw_tbl := lw_at lw_m6 66 rfl
theorem q1366 : (Jvm.Cond.instanceMethod ({ cls := "RelicHouse$LawReader", name := "two", desc := "(Ljava/lang/String;)LRelicHouse$Term;" } : Jvm.MethodName)) ∈ lw_all := lw_g (lw_at lw_m6 67 rfl) rfl
theorem q1367 : (Jvm.Cond.code ({ cls := "RelicHouse$LawReader", name := "two", desc := "(Ljava/lang/String;)LRelicHouse$Term;" } : Jvm.MethodName) prog_13_method_7_code (4 : Nat) (Option.some (Jvm.ClassFile.FieldType.object "RelicHouse$Term"))) ∈ lw_all := lw_g (lw_at lw_m6 68 rfl) rfl
theorem q1368 : (Jvm.Cond.classLink "RelicHouse$LawReader" (118 : Nat) "RelicHouse$Least") ∈ lw_all := lw_g (lw_at lw_m6 69 rfl) rfl
theorem q1370 : (Jvm.Cond.methodLink "RelicHouse$LawReader" (120 : Nat) ({ cls := "RelicHouse$Least", name := "<init>", desc := "(LRelicHouse$Term;LRelicHouse$Term;)V" } : Jvm.MethodName)) ∈ lw_all := lw_g (lw_at lw_m6 71 rfl) rfl
theorem q1377 : (Jvm.Cond.classLink "RelicHouse$LawReader" (121 : Nat) "RelicHouse$Most") ∈ lw_all := lw_g (lw_at lw_m6 78 rfl) rfl
theorem q1379 : (Jvm.Cond.methodLink "RelicHouse$LawReader" (123 : Nat) ({ cls := "RelicHouse$Most", name := "<init>", desc := "(LRelicHouse$Term;LRelicHouse$Term;)V" } : Jvm.MethodName)) ∈ lw_all := lw_g (lw_at lw_m6 80 rfl) rfl
theorem q1386 : (Jvm.Cond.methodLink "RelicHouse$LawReader" (26 : Nat) ({ cls := "RelicHouse$LawReader", name := "wrong", desc := "()LRelicHouse$Wrong;" } : Jvm.MethodName)) ∈ lw_all := lw_g (lw_at lw_m6 87 rfl) rfl
theorem q1387 : (Jvm.Cond.sameMethod "RelicHouse$LawReader" "RelicHouse$Reader" "wrong" "()LRelicHouse$Wrong;") ∈ lw_all := lw_g (lw_at lw_m6 88 rfl) rfl
theorem q1388 : (Jvm.Cond.selects "RelicHouse$LawReader" ({ cls := "RelicHouse$LawReader", name := "wrong", desc := "()LRelicHouse$Wrong;" } : Jvm.MethodName) ({ cls := "RelicHouse$Reader", name := "wrong", desc := "()LRelicHouse$Wrong;" } : Jvm.MethodName)) ∈ lw_all := lw_g (lw_at lw_m6 89 rfl) rfl
theorem q1389 : (Jvm.Cond.classLink "RelicHouse$LawReader" (44 : Nat) "RelicHouse$Times") ∈ lw_all := lw_g (lw_at lw_m6 90 rfl) rfl
theorem q1390 : (Jvm.Cond.methodLink "RelicHouse$LawReader" (46 : Nat) ({ cls := "RelicHouse$Times", name := "<init>", desc := "(LRelicHouse$Term;LRelicHouse$Term;)V" } : Jvm.MethodName)) ∈ lw_all := lw_g (lw_at lw_m6 91 rfl) rfl
theorem q1391 : (Jvm.Cond.classLink "RelicHouse$LawReader" (47 : Nat) "RelicHouse$By") ∈ lw_all := lw_g (lw_at lw_m6 92 rfl) rfl
theorem q1393 : (Jvm.Cond.methodLink "RelicHouse$LawReader" (49 : Nat) ({ cls := "RelicHouse$By", name := "<init>", desc := "(LRelicHouse$Term;LRelicHouse$Term;)V" } : Jvm.MethodName)) ∈ lw_all := lw_g (lw_at lw_m6 94 rfl) rfl
theorem q1400 : (Jvm.Cond.classLink "RelicHouse$LawReader" (50 : Nat) "RelicHouse$Leaves") ∈ lw_all := lw_g (lw_at lw_m6 101 rfl) rfl
theorem q1402 : (Jvm.Cond.methodLink "RelicHouse$LawReader" (52 : Nat) ({ cls := "RelicHouse$Leaves", name := "<init>", desc := "(LRelicHouse$Term;LRelicHouse$Term;)V" } : Jvm.MethodName)) ∈ lw_all := lw_g (lw_at lw_m6 103 rfl) rfl
theorem q1409 : (Jvm.Cond.classLink "RelicHouse$LawReader" (33 : Nat) "RelicHouse$Plus") ∈ lw_all := lw_g (lw_at lw_m6 110 rfl) rfl
theorem q1410 : (Jvm.Cond.methodLink "RelicHouse$LawReader" (35 : Nat) ({ cls := "RelicHouse$Plus", name := "<init>", desc := "(LRelicHouse$Term;LRelicHouse$Term;)V" } : Jvm.MethodName)) ∈ lw_all := lw_g (lw_at lw_m6 111 rfl) rfl
theorem q1411 : (Jvm.Cond.classLink "RelicHouse$LawReader" (38 : Nat) "RelicHouse$Minus") ∈ lw_all := lw_g (lw_at lw_m6 112 rfl) rfl
theorem q1412 : (Jvm.Cond.methodLink "RelicHouse$LawReader" (40 : Nat) ({ cls := "RelicHouse$Minus", name := "<init>", desc := "(LRelicHouse$Term;LRelicHouse$Term;)V" } : Jvm.MethodName)) ∈ lw_all := lw_g (lw_at lw_m6 113 rfl) rfl
theorem q2588 : (Jvm.Cond.selects "RelicHouse$LawReader" ({ cls := "RelicHouse$Reader", name := "sign", desc := "()I" } : Jvm.MethodName) ({ cls := "RelicHouse$Reader", name := "sign", desc := "()I" } : Jvm.MethodName)) ∈ lw_all := lw_g (lw_at lw_m11 89 rfl) rfl
theorem q2595 : (Jvm.Cond.selects "RelicHouse$LawReader" ({ cls := "RelicHouse$Reader", name := "wrong", desc := "()LRelicHouse$Wrong;" } : Jvm.MethodName) ({ cls := "RelicHouse$Reader", name := "wrong", desc := "()LRelicHouse$Wrong;" } : Jvm.MethodName)) ∈ lw_all := lw_g (lw_at lw_m11 96 rfl) rfl
theorem q2624 : (Jvm.Cond.castable "RelicHouse$LawReader" "java/lang/Object") ∈ lw_tbl := lw_at lw_m11 125 rfl
theorem in_X17 : ∀ w ∈ wsX170, w ∈ lw_all := lw_in wsX170 [1303, 1304, 1305, 1306, 1307] (by decide +kernel) (by decide +kernel)
/-! RelicHouse$Least -/
def RX18 : String := "RelicHouse$Least"
def TX18 : u_T := fun k => match k with
  | 0 => ("RelicHouse$Two", "a", "LRelicHouse$Term;", true)
  | _ => ("RelicHouse$Two", "b", "LRelicHouse$Term;", true)
def tyX18 : Nat → FieldType := fun k => match k with
  | 0 => .object "RelicHouse$Term"
  | _ => .object "RelicHouse$Term"
abbrev wsX180 : List Cond := u_ws RX18 TX18 2
theorem nmX18 : ∀ a, a < 2 → ∀ b, b < 2 → a ≠ b → (TX18 a).2.1 ≠ (TX18 b).2.1 := by decide +kernel
theorem tyX18_ok : ∀ k, k < 2 → parseFieldDescriptor (TX18 k).2.2.1 = some (tyX18 k) := by decide +kernel
abbrev cX18_with : ByteArray := prog_14_method_2_code
def yX18_with : MethodName := ⟨RX18, "with", "(II)I"⟩
abbrev cX18_init : ByteArray := prog_14_method_1_code
def yX18_init : MethodName := ⟨RX18, "<init>", "(LRelicHouse$Term;LRelicHouse$Term;)V"⟩
theorem q136 : (Jvm.Cond.initialized "RelicHouse$Least") ∈ lw_all := lw_g (lw_at lw_m1 37 rfl) rfl
theorem q873 : (Jvm.Cond.selects "RelicHouse$Least" ({ cls := "RelicHouse$Two", name := "with", desc := "(II)I" } : Jvm.MethodName) ({ cls := "RelicHouse$Least", name := "with", desc := "(II)I" } : Jvm.MethodName)) ∈ lw_all := lw_g (lw_at lw_m4 54 rfl) rfl
theorem q874 : (Jvm.Cond.instanceMethod ({ cls := "RelicHouse$Least", name := "with", desc := "(II)I" } : Jvm.MethodName)) ∈ lw_all := lw_g (lw_at lw_m4 55 rfl) rfl
theorem q875 : (Jvm.Cond.code ({ cls := "RelicHouse$Least", name := "with", desc := "(II)I" } : Jvm.MethodName) prog_14_method_2_code (3 : Nat) (Option.some Jvm.ClassFile.FieldType.int)) ∈ lw_all := lw_g (lw_at lw_m4 56 rfl) rfl
theorem q876 : (Jvm.Cond.methodLink "RelicHouse$Least" (7 : Nat) ({ cls := "java/lang/Math", name := "min", desc := "(II)I" } : Jvm.MethodName)) ∈ lw_all := lw_g (lw_at lw_m4 57 rfl) rfl
theorem q894 : (Jvm.Cond.selects "RelicHouse$Least" ({ cls := "RelicHouse$Term", name := "of", desc := "([I)I" } : Jvm.MethodName) ({ cls := "RelicHouse$Two", name := "of", desc := "([I)I" } : Jvm.MethodName)) ∈ lw_all := lw_g (lw_at lw_m4 75 rfl) rfl
theorem q1235 : (Jvm.Cond.selects "RelicHouse$Least" ({ cls := "java/lang/Object", name := "getClass", desc := "()Ljava/lang/Class;" } : Jvm.MethodName) ({ cls := "java/lang/Object", name := "getClass", desc := "()Ljava/lang/Class;" } : Jvm.MethodName)) ∈ lw_all := lw_g (lw_at lw_m5 176 rfl) rfl
theorem q1369 : (Jvm.Cond.instantiable "RelicHouse$Least" (2 : Nat)) ∈ lw_all := lw_g (lw_at lw_m6 70 rfl) rfl
theorem q1371 : (Jvm.Cond.instanceMethod ({ cls := "RelicHouse$Least", name := "<init>", desc := "(LRelicHouse$Term;LRelicHouse$Term;)V" } : Jvm.MethodName)) ∈ lw_all := lw_g (lw_at lw_m6 72 rfl) rfl
theorem q1372 : (Jvm.Cond.code ({ cls := "RelicHouse$Least", name := "<init>", desc := "(LRelicHouse$Term;LRelicHouse$Term;)V" } : Jvm.MethodName) prog_14_method_1_code (3 : Nat) (Option.none : Option Jvm.ClassFile.FieldType)) ∈ lw_all := lw_g (lw_at lw_m6 73 rfl) rfl
theorem q1373 : (Jvm.Cond.methodLink "RelicHouse$Least" (1 : Nat) ({ cls := "RelicHouse$Two", name := "<init>", desc := "(LRelicHouse$Term;LRelicHouse$Term;)V" } : Jvm.MethodName)) ∈ lw_all := lw_g (lw_at lw_m6 74 rfl) rfl
theorem q1374 : (Jvm.Cond.laysFinal "RelicHouse$Least" "RelicHouse$Two" "a" "LRelicHouse$Term;") ∈ lw_all := lw_g (lw_at lw_m6 75 rfl) rfl
theorem q1375 : (Jvm.Cond.laysFinal "RelicHouse$Least" "RelicHouse$Two" "b" "LRelicHouse$Term;") ∈ lw_all := lw_g (lw_at lw_m6 76 rfl) rfl
theorem q1376 : (Jvm.Cond.superclass "RelicHouse$Least" "RelicHouse$Two") ∈ lw_all := lw_g (lw_at lw_m6 77 rfl) rfl
theorem q2625 : (Jvm.Cond.castable "RelicHouse$Least" "java/lang/Object") ∈ lw_tbl := lw_at lw_m11 126 rfl
theorem in_X18 : ∀ w ∈ wsX180, w ∈ lw_all := lw_in wsX180 [1374, 1375] (by decide +kernel) (by decide +kernel)
/-! RelicHouse$Most -/
def RX19 : String := "RelicHouse$Most"
def TX19 : u_T := fun k => match k with
  | 0 => ("RelicHouse$Two", "a", "LRelicHouse$Term;", true)
  | _ => ("RelicHouse$Two", "b", "LRelicHouse$Term;", true)
def tyX19 : Nat → FieldType := fun k => match k with
  | 0 => .object "RelicHouse$Term"
  | _ => .object "RelicHouse$Term"
abbrev wsX190 : List Cond := u_ws RX19 TX19 2
theorem nmX19 : ∀ a, a < 2 → ∀ b, b < 2 → a ≠ b → (TX19 a).2.1 ≠ (TX19 b).2.1 := by decide +kernel
theorem tyX19_ok : ∀ k, k < 2 → parseFieldDescriptor (TX19 k).2.2.1 = some (tyX19 k) := by decide +kernel
abbrev cX19_with : ByteArray := prog_17_method_2_code
def yX19_with : MethodName := ⟨RX19, "with", "(II)I"⟩
abbrev cX19_init : ByteArray := prog_17_method_1_code
def yX19_init : MethodName := ⟨RX19, "<init>", "(LRelicHouse$Term;LRelicHouse$Term;)V"⟩
theorem q137 : (Jvm.Cond.initialized "RelicHouse$Most") ∈ lw_all := lw_g (lw_at lw_m1 38 rfl) rfl
theorem q883 : (Jvm.Cond.selects "RelicHouse$Most" ({ cls := "RelicHouse$Two", name := "with", desc := "(II)I" } : Jvm.MethodName) ({ cls := "RelicHouse$Most", name := "with", desc := "(II)I" } : Jvm.MethodName)) ∈ lw_all := lw_g (lw_at lw_m4 64 rfl) rfl
theorem q884 : (Jvm.Cond.instanceMethod ({ cls := "RelicHouse$Most", name := "with", desc := "(II)I" } : Jvm.MethodName)) ∈ lw_all := lw_g (lw_at lw_m4 65 rfl) rfl
theorem q885 : (Jvm.Cond.code ({ cls := "RelicHouse$Most", name := "with", desc := "(II)I" } : Jvm.MethodName) prog_17_method_2_code (3 : Nat) (Option.some Jvm.ClassFile.FieldType.int)) ∈ lw_all := lw_g (lw_at lw_m4 66 rfl) rfl
theorem q886 : (Jvm.Cond.methodLink "RelicHouse$Most" (7 : Nat) ({ cls := "java/lang/Math", name := "max", desc := "(II)I" } : Jvm.MethodName)) ∈ lw_all := lw_g (lw_at lw_m4 67 rfl) rfl
theorem q897 : (Jvm.Cond.selects "RelicHouse$Most" ({ cls := "RelicHouse$Term", name := "of", desc := "([I)I" } : Jvm.MethodName) ({ cls := "RelicHouse$Two", name := "of", desc := "([I)I" } : Jvm.MethodName)) ∈ lw_all := lw_g (lw_at lw_m4 78 rfl) rfl
theorem q1238 : (Jvm.Cond.selects "RelicHouse$Most" ({ cls := "java/lang/Object", name := "getClass", desc := "()Ljava/lang/Class;" } : Jvm.MethodName) ({ cls := "java/lang/Object", name := "getClass", desc := "()Ljava/lang/Class;" } : Jvm.MethodName)) ∈ lw_all := lw_g (lw_at lw_m5 179 rfl) rfl
theorem q1378 : (Jvm.Cond.instantiable "RelicHouse$Most" (2 : Nat)) ∈ lw_all := lw_g (lw_at lw_m6 79 rfl) rfl
theorem q1380 : (Jvm.Cond.instanceMethod ({ cls := "RelicHouse$Most", name := "<init>", desc := "(LRelicHouse$Term;LRelicHouse$Term;)V" } : Jvm.MethodName)) ∈ lw_all := lw_g (lw_at lw_m6 81 rfl) rfl
theorem q1381 : (Jvm.Cond.code ({ cls := "RelicHouse$Most", name := "<init>", desc := "(LRelicHouse$Term;LRelicHouse$Term;)V" } : Jvm.MethodName) prog_17_method_1_code (3 : Nat) (Option.none : Option Jvm.ClassFile.FieldType)) ∈ lw_all := lw_g (lw_at lw_m6 82 rfl) rfl
theorem q1382 : (Jvm.Cond.methodLink "RelicHouse$Most" (1 : Nat) ({ cls := "RelicHouse$Two", name := "<init>", desc := "(LRelicHouse$Term;LRelicHouse$Term;)V" } : Jvm.MethodName)) ∈ lw_all := lw_g (lw_at lw_m6 83 rfl) rfl
theorem q1383 : (Jvm.Cond.laysFinal "RelicHouse$Most" "RelicHouse$Two" "a" "LRelicHouse$Term;") ∈ lw_all := lw_g (lw_at lw_m6 84 rfl) rfl
theorem q1384 : (Jvm.Cond.laysFinal "RelicHouse$Most" "RelicHouse$Two" "b" "LRelicHouse$Term;") ∈ lw_all := lw_g (lw_at lw_m6 85 rfl) rfl
theorem q1385 : (Jvm.Cond.superclass "RelicHouse$Most" "RelicHouse$Two") ∈ lw_all := lw_g (lw_at lw_m6 86 rfl) rfl
theorem q2626 : (Jvm.Cond.castable "RelicHouse$Most" "java/lang/Object") ∈ lw_tbl := lw_at lw_m11 127 rfl
theorem in_X19 : ∀ w ∈ wsX190, w ∈ lw_all := lw_in wsX190 [1383, 1384] (by decide +kernel) (by decide +kernel)
/-! RelicHouse$By -/
def RX20 : String := "RelicHouse$By"
def TX20 : u_T := fun k => match k with
  | 0 => ("RelicHouse$Two", "a", "LRelicHouse$Term;", true)
  | _ => ("RelicHouse$Two", "b", "LRelicHouse$Term;", true)
def tyX20 : Nat → FieldType := fun k => match k with
  | 0 => .object "RelicHouse$Term"
  | _ => .object "RelicHouse$Term"
abbrev wsX200 : List Cond := u_ws RX20 TX20 2
theorem nmX20 : ∀ a, a < 2 → ∀ b, b < 2 → a ≠ b → (TX20 a).2.1 ≠ (TX20 b).2.1 := by decide +kernel
theorem tyX20_ok : ∀ k, k < 2 → parseFieldDescriptor (TX20 k).2.2.1 = some (tyX20 k) := by decide +kernel
abbrev cX20_with : ByteArray := prog_5_method_2_code
def yX20_with : MethodName := ⟨RX20, "with", "(II)I"⟩
abbrev cX20_init : ByteArray := prog_5_method_1_code
def yX20_init : MethodName := ⟨RX20, "<init>", "(LRelicHouse$Term;LRelicHouse$Term;)V"⟩
theorem q138 : (Jvm.Cond.initialized "RelicHouse$By") ∈ lw_all := lw_g (lw_at lw_m1 39 rfl) rfl
theorem q859 : (Jvm.Cond.selects "RelicHouse$By" ({ cls := "RelicHouse$Term", name := "of", desc := "([I)I" } : Jvm.MethodName) ({ cls := "RelicHouse$Two", name := "of", desc := "([I)I" } : Jvm.MethodName)) ∈ lw_all := lw_g (lw_at lw_m4 40 rfl) rfl
theorem q870 : (Jvm.Cond.selects "RelicHouse$By" ({ cls := "RelicHouse$Two", name := "with", desc := "(II)I" } : Jvm.MethodName) ({ cls := "RelicHouse$By", name := "with", desc := "(II)I" } : Jvm.MethodName)) ∈ lw_all := lw_g (lw_at lw_m4 51 rfl) rfl
theorem q871 : (Jvm.Cond.instanceMethod ({ cls := "RelicHouse$By", name := "with", desc := "(II)I" } : Jvm.MethodName)) ∈ lw_all := lw_g (lw_at lw_m4 52 rfl) rfl
theorem q872 : (Jvm.Cond.code ({ cls := "RelicHouse$By", name := "with", desc := "(II)I" } : Jvm.MethodName) prog_5_method_2_code (3 : Nat) (Option.some Jvm.ClassFile.FieldType.int)) ∈ lw_all := lw_g (lw_at lw_m4 53 rfl) rfl
theorem q1226 : (Jvm.Cond.selects "RelicHouse$By" ({ cls := "java/lang/Object", name := "getClass", desc := "()Ljava/lang/Class;" } : Jvm.MethodName) ({ cls := "java/lang/Object", name := "getClass", desc := "()Ljava/lang/Class;" } : Jvm.MethodName)) ∈ lw_all := lw_g (lw_at lw_m5 167 rfl) rfl
theorem q1392 : (Jvm.Cond.instantiable "RelicHouse$By" (2 : Nat)) ∈ lw_all := lw_g (lw_at lw_m6 93 rfl) rfl
theorem q1394 : (Jvm.Cond.instanceMethod ({ cls := "RelicHouse$By", name := "<init>", desc := "(LRelicHouse$Term;LRelicHouse$Term;)V" } : Jvm.MethodName)) ∈ lw_all := lw_g (lw_at lw_m6 95 rfl) rfl
theorem q1395 : (Jvm.Cond.code ({ cls := "RelicHouse$By", name := "<init>", desc := "(LRelicHouse$Term;LRelicHouse$Term;)V" } : Jvm.MethodName) prog_5_method_1_code (3 : Nat) (Option.none : Option Jvm.ClassFile.FieldType)) ∈ lw_all := lw_g (lw_at lw_m6 96 rfl) rfl
theorem q1396 : (Jvm.Cond.methodLink "RelicHouse$By" (1 : Nat) ({ cls := "RelicHouse$Two", name := "<init>", desc := "(LRelicHouse$Term;LRelicHouse$Term;)V" } : Jvm.MethodName)) ∈ lw_all := lw_g (lw_at lw_m6 97 rfl) rfl
theorem q1397 : (Jvm.Cond.laysFinal "RelicHouse$By" "RelicHouse$Two" "a" "LRelicHouse$Term;") ∈ lw_all := lw_g (lw_at lw_m6 98 rfl) rfl
theorem q1398 : (Jvm.Cond.laysFinal "RelicHouse$By" "RelicHouse$Two" "b" "LRelicHouse$Term;") ∈ lw_all := lw_g (lw_at lw_m6 99 rfl) rfl
theorem q1399 : (Jvm.Cond.superclass "RelicHouse$By" "RelicHouse$Two") ∈ lw_all := lw_g (lw_at lw_m6 100 rfl) rfl
theorem q2627 : (Jvm.Cond.castable "RelicHouse$By" "java/lang/Object") ∈ lw_tbl := lw_at lw_m11 128 rfl
theorem in_X20 : ∀ w ∈ wsX200, w ∈ lw_all := lw_in wsX200 [1397, 1398] (by decide +kernel) (by decide +kernel)
/-! RelicHouse$Leaves -/
def RX21 : String := "RelicHouse$Leaves"
def TX21 : u_T := fun k => match k with
  | 0 => ("RelicHouse$Two", "a", "LRelicHouse$Term;", true)
  | _ => ("RelicHouse$Two", "b", "LRelicHouse$Term;", true)
def tyX21 : Nat → FieldType := fun k => match k with
  | 0 => .object "RelicHouse$Term"
  | _ => .object "RelicHouse$Term"
abbrev wsX210 : List Cond := u_ws RX21 TX21 2
theorem nmX21 : ∀ a, a < 2 → ∀ b, b < 2 → a ≠ b → (TX21 a).2.1 ≠ (TX21 b).2.1 := by decide +kernel
theorem tyX21_ok : ∀ k, k < 2 → parseFieldDescriptor (TX21 k).2.2.1 = some (tyX21 k) := by decide +kernel
abbrev cX21_with : ByteArray := prog_15_method_2_code
def yX21_with : MethodName := ⟨RX21, "with", "(II)I"⟩
abbrev cX21_init : ByteArray := prog_15_method_1_code
def yX21_init : MethodName := ⟨RX21, "<init>", "(LRelicHouse$Term;LRelicHouse$Term;)V"⟩
theorem q139 : (Jvm.Cond.initialized "RelicHouse$Leaves") ∈ lw_all := lw_g (lw_at lw_m1 40 rfl) rfl
theorem q877 : (Jvm.Cond.selects "RelicHouse$Leaves" ({ cls := "RelicHouse$Two", name := "with", desc := "(II)I" } : Jvm.MethodName) ({ cls := "RelicHouse$Leaves", name := "with", desc := "(II)I" } : Jvm.MethodName)) ∈ lw_all := lw_g (lw_at lw_m4 58 rfl) rfl
theorem q878 : (Jvm.Cond.instanceMethod ({ cls := "RelicHouse$Leaves", name := "with", desc := "(II)I" } : Jvm.MethodName)) ∈ lw_all := lw_g (lw_at lw_m4 59 rfl) rfl
theorem q879 : (Jvm.Cond.code ({ cls := "RelicHouse$Leaves", name := "with", desc := "(II)I" } : Jvm.MethodName) prog_15_method_2_code (3 : Nat) (Option.some Jvm.ClassFile.FieldType.int)) ∈ lw_all := lw_g (lw_at lw_m4 60 rfl) rfl
theorem q895 : (Jvm.Cond.selects "RelicHouse$Leaves" ({ cls := "RelicHouse$Term", name := "of", desc := "([I)I" } : Jvm.MethodName) ({ cls := "RelicHouse$Two", name := "of", desc := "([I)I" } : Jvm.MethodName)) ∈ lw_all := lw_g (lw_at lw_m4 76 rfl) rfl
theorem q1236 : (Jvm.Cond.selects "RelicHouse$Leaves" ({ cls := "java/lang/Object", name := "getClass", desc := "()Ljava/lang/Class;" } : Jvm.MethodName) ({ cls := "java/lang/Object", name := "getClass", desc := "()Ljava/lang/Class;" } : Jvm.MethodName)) ∈ lw_all := lw_g (lw_at lw_m5 177 rfl) rfl
theorem q1401 : (Jvm.Cond.instantiable "RelicHouse$Leaves" (2 : Nat)) ∈ lw_all := lw_g (lw_at lw_m6 102 rfl) rfl
theorem q1403 : (Jvm.Cond.instanceMethod ({ cls := "RelicHouse$Leaves", name := "<init>", desc := "(LRelicHouse$Term;LRelicHouse$Term;)V" } : Jvm.MethodName)) ∈ lw_all := lw_g (lw_at lw_m6 104 rfl) rfl
theorem q1404 : (Jvm.Cond.code ({ cls := "RelicHouse$Leaves", name := "<init>", desc := "(LRelicHouse$Term;LRelicHouse$Term;)V" } : Jvm.MethodName) prog_15_method_1_code (3 : Nat) (Option.none : Option Jvm.ClassFile.FieldType)) ∈ lw_all := lw_g (lw_at lw_m6 105 rfl) rfl
theorem q1405 : (Jvm.Cond.methodLink "RelicHouse$Leaves" (1 : Nat) ({ cls := "RelicHouse$Two", name := "<init>", desc := "(LRelicHouse$Term;LRelicHouse$Term;)V" } : Jvm.MethodName)) ∈ lw_all := lw_g (lw_at lw_m6 106 rfl) rfl
theorem q1406 : (Jvm.Cond.laysFinal "RelicHouse$Leaves" "RelicHouse$Two" "a" "LRelicHouse$Term;") ∈ lw_all := lw_g (lw_at lw_m6 107 rfl) rfl
theorem q1407 : (Jvm.Cond.laysFinal "RelicHouse$Leaves" "RelicHouse$Two" "b" "LRelicHouse$Term;") ∈ lw_all := lw_g (lw_at lw_m6 108 rfl) rfl
theorem q1408 : (Jvm.Cond.superclass "RelicHouse$Leaves" "RelicHouse$Two") ∈ lw_all := lw_g (lw_at lw_m6 109 rfl) rfl
theorem q2628 : (Jvm.Cond.castable "RelicHouse$Leaves" "java/lang/Object") ∈ lw_tbl := lw_at lw_m11 129 rfl
theorem in_X21 : ∀ w ∈ wsX210, w ∈ lw_all := lw_in wsX210 [1406, 1407] (by decide +kernel) (by decide +kernel)
/-! RelicHouse$WorkReader -/
def RX22 : String := "RelicHouse$WorkReader"
def TX22 : u_T := fun k => match k with
  | 0 => ("RelicHouse$Reader", "text", "[B", true)
  | 1 => ("RelicHouse$Reader", "size", "I", true)
  | 2 => ("RelicHouse$Reader", "next", "I", false)
  | 3 => ("RelicHouse$Reader", "from", "I", false)
  | 4 => ("RelicHouse$Reader", "open", "I", false)
  | _ => ("RelicHouse$WorkReader", "t", "LRelicHouse$Told;", true)
def tyX22 : Nat → FieldType := fun k => match k with
  | 0 => .array .byte
  | 1 => .int
  | 2 => .int
  | 3 => .int
  | 4 => .int
  | _ => .object "RelicHouse$Told"
abbrev wsX220 : List Cond := u_ws RX22 TX22 6
theorem nmX22 : ∀ a, a < 6 → ∀ b, b < 6 → a ≠ b → (TX22 a).2.1 ≠ (TX22 b).2.1 := by decide +kernel
theorem tyX22_ok : ∀ k, k < 6 → parseFieldDescriptor (TX22 k).2.2.1 = some (tyX22 k) := by decide +kernel
abbrev cX22_init : ByteArray := prog_30_method_1_code
def yX22_init : MethodName := ⟨RX22, "<init>", "([BILRelicHouse$Told;)V"⟩
abbrev cX22_reads : ByteArray := prog_30_method_2_code
def yX22_reads : MethodName := ⟨RX22, "reads", "()Ljava/util/ArrayList;"⟩
abbrev cX22_step : ByteArray := prog_30_method_5_code
def yX22_step : MethodName := ⟨RX22, "step", "()LRelicHouse$Step;"⟩
abbrev cX22_act : ByteArray := prog_30_method_6_code
def yX22_act : MethodName := ⟨RX22, "act", "(Ljava/lang/String;)LRelicHouse$Step;"⟩
abbrev cX22_relic : ByteArray := prog_30_method_3_code
def yX22_relic : MethodName := ⟨RX22, "relic", "()I"⟩
abbrev cX22_sister : ByteArray := prog_30_method_4_code
def yX22_sister : MethodName := ⟨RX22, "sister", "()I"⟩
abbrev cX22_again : ByteArray := prog_30_method_7_code
def yX22_again : MethodName := ⟨RX22, "again", "()LRelicHouse$Step;"⟩
theorem q140 : (Jvm.Cond.initialized "RelicHouse$WorkReader") ∈ lw_all := lw_g (lw_at lw_m1 41 rfl) rfl
theorem q518 : (Jvm.Cond.fieldLinkNest "RelicHouse$WorkReader" (39 : Nat) "RelicHouse$Told" "relics" "Ljava/util/ArrayList;" "RelicHouse") ∈ lw_tbl := lw_at lw_m2 179 rfl
theorem q524 : (Jvm.Cond.fieldLinkNest "RelicHouse$WorkReader" (113 : Nat) "RelicHouse$Told" "pilgrims" "Ljava/util/ArrayList;" "RelicHouse") ∈ lw_tbl := lw_at lw_m2 185 rfl
theorem q527 : (Jvm.Cond.fieldLinkNest "RelicHouse$WorkReader" (51 : Nat) "RelicHouse$Told" "sisters" "I" "RelicHouse") ∈ lw_tbl := lw_at lw_m2 188 rfl
theorem q968 : (Jvm.Cond.fieldLink "RelicHouse$WorkReader" (28 : Nat) "RelicHouse$WorkReader" "size" "I") ∈ lw_all := lw_g (lw_at lw_m4 149 rfl) rfl
theorem q969 : (Jvm.Cond.sameField "RelicHouse$WorkReader" "RelicHouse$Reader" "size" "I") ∈ lw_all := lw_g (lw_at lw_m4 150 rfl) rfl
theorem q977 : (Jvm.Cond.fieldLink "RelicHouse$WorkReader" (24 : Nat) "RelicHouse$WorkReader" "next" "I") ∈ lw_all := lw_g (lw_at lw_m4 158 rfl) rfl
theorem q978 : (Jvm.Cond.sameField "RelicHouse$WorkReader" "RelicHouse$Reader" "next" "I") ∈ lw_all := lw_g (lw_at lw_m4 159 rfl) rfl
theorem q987 : (Jvm.Cond.fieldLink "RelicHouse$WorkReader" (136 : Nat) "RelicHouse$WorkReader" "open" "I") ∈ lw_all := lw_g (lw_at lw_m4 168 rfl) rfl
theorem q988 : (Jvm.Cond.sameField "RelicHouse$WorkReader" "RelicHouse$Reader" "open" "I") ∈ lw_all := lw_g (lw_at lw_m4 169 rfl) rfl
theorem q1247 : (Jvm.Cond.selects "RelicHouse$WorkReader" ({ cls := "java/lang/Object", name := "getClass", desc := "()Ljava/lang/Class;" } : Jvm.MethodName) ({ cls := "java/lang/Object", name := "getClass", desc := "()Ljava/lang/Class;" } : Jvm.MethodName)) ∈ lw_all := lw_g (lw_at lw_m5 188 rfl) rfl
theorem q1421 : (Jvm.Cond.instantiable "RelicHouse$WorkReader" (6 : Nat)) ∈ lw_all := lw_g (lw_at lw_m6 122 rfl) rfl
theorem q1423 : (Jvm.Cond.instanceMethod ({ cls := "RelicHouse$WorkReader", name := "<init>", desc := "([BILRelicHouse$Told;)V" } : Jvm.MethodName)) ∈ lw_all := lw_g (lw_at lw_m6 124 rfl) rfl
theorem q1424 : (Jvm.Cond.code ({ cls := "RelicHouse$WorkReader", name := "<init>", desc := "([BILRelicHouse$Told;)V" } : Jvm.MethodName) prog_30_method_1_code (4 : Nat) (Option.none : Option Jvm.ClassFile.FieldType)) ∈ lw_all := lw_g (lw_at lw_m6 125 rfl) rfl
theorem q1425 : (Jvm.Cond.methodLink "RelicHouse$WorkReader" (3 : Nat) ({ cls := "RelicHouse$Reader", name := "<init>", desc := "([BI)V" } : Jvm.MethodName)) ∈ lw_all := lw_g (lw_at lw_m6 126 rfl) rfl
theorem q1426 : (Jvm.Cond.fieldLink "RelicHouse$WorkReader" (9 : Nat) "RelicHouse$WorkReader" "t" "LRelicHouse$Told;") ∈ lw_all := lw_g (lw_at lw_m6 127 rfl) rfl
theorem q1427 : (Jvm.Cond.laysFinal "RelicHouse$WorkReader" "RelicHouse$WorkReader" "t" "LRelicHouse$Told;") ∈ lw_all := lw_g (lw_at lw_m6 128 rfl) rfl
theorem q1428 : (Jvm.Cond.soleField "RelicHouse$WorkReader" "t") ∈ lw_all := lw_g (lw_at lw_m6 129 rfl) rfl
theorem q1429 : (Jvm.Cond.laysFinal "RelicHouse$WorkReader" "RelicHouse$Reader" "text" "[B") ∈ lw_all := lw_g (lw_at lw_m6 130 rfl) rfl
theorem q1430 : (Jvm.Cond.laysFinal "RelicHouse$WorkReader" "RelicHouse$Reader" "size" "I") ∈ lw_all := lw_g (lw_at lw_m6 131 rfl) rfl
theorem q1431 : (Jvm.Cond.lays "RelicHouse$WorkReader" "RelicHouse$Reader" "next" "I") ∈ lw_all := lw_g (lw_at lw_m6 132 rfl) rfl
theorem q1432 : (Jvm.Cond.lays "RelicHouse$WorkReader" "RelicHouse$Reader" "from" "I") ∈ lw_all := lw_g (lw_at lw_m6 133 rfl) rfl
theorem q1433 : (Jvm.Cond.lays "RelicHouse$WorkReader" "RelicHouse$Reader" "open" "I") ∈ lw_all := lw_g (lw_at lw_m6 134 rfl) rfl
theorem q1434 : (Jvm.Cond.superclass "RelicHouse$WorkReader" "RelicHouse$Reader") ∈ lw_all := lw_g (lw_at lw_m6 135 rfl) rfl
theorem q1436 : (Jvm.Cond.instanceMethod ({ cls := "RelicHouse$WorkReader", name := "reads", desc := "()Ljava/util/ArrayList;" } : Jvm.MethodName)) ∈ lw_all := lw_g (lw_at lw_m6 137 rfl) rfl
theorem q1437 : (Jvm.Cond.selects "RelicHouse$WorkReader" ({ cls := "RelicHouse$WorkReader", name := "reads", desc := "()Ljava/util/ArrayList;" } : Jvm.MethodName) ({ cls := "RelicHouse$WorkReader", name := "reads", desc := "()Ljava/util/ArrayList;" } : Jvm.MethodName)) ∈ lw_all := lw_g (lw_at lw_m6 138 rfl) rfl
theorem q1438 : (Jvm.Cond.code ({ cls := "RelicHouse$WorkReader", name := "reads", desc := "()Ljava/util/ArrayList;" } : Jvm.MethodName) prog_30_method_2_code (2 : Nat) (Option.some (Jvm.ClassFile.FieldType.object "java/util/ArrayList"))) ∈ lw_all := lw_g (lw_at lw_m6 139 rfl) rfl
theorem q1439 : (Jvm.Cond.classLink "RelicHouse$WorkReader" (15 : Nat) "java/util/ArrayList") ∈ lw_all := lw_g (lw_at lw_m6 140 rfl) rfl
theorem q1440 : (Jvm.Cond.methodLink "RelicHouse$WorkReader" (17 : Nat) ({ cls := "java/util/ArrayList", name := "<init>", desc := "(I)V" } : Jvm.MethodName)) ∈ lw_all := lw_g (lw_at lw_m6 141 rfl) rfl
theorem q1441 : (Jvm.Cond.methodLink "RelicHouse$WorkReader" (20 : Nat) ({ cls := "RelicHouse$WorkReader", name := "sign", desc := "()I" } : Jvm.MethodName)) ∈ lw_all := lw_g (lw_at lw_m6 142 rfl) rfl
theorem q1442 : (Jvm.Cond.sameMethod "RelicHouse$WorkReader" "RelicHouse$Reader" "sign" "()I") ∈ lw_all := lw_g (lw_at lw_m6 143 rfl) rfl
theorem q1443 : (Jvm.Cond.selects "RelicHouse$WorkReader" ({ cls := "RelicHouse$WorkReader", name := "sign", desc := "()I" } : Jvm.MethodName) ({ cls := "RelicHouse$Reader", name := "sign", desc := "()I" } : Jvm.MethodName)) ∈ lw_all := lw_g (lw_at lw_m6 144 rfl) rfl
theorem q1444 : (Jvm.Cond.methodLink "RelicHouse$WorkReader" (31 : Nat) ({ cls := "RelicHouse$WorkReader", name := "step", desc := "()LRelicHouse$Step;" } : Jvm.MethodName)) ∈ lw_all := lw_g (lw_at lw_m6 145 rfl) rfl
theorem q1445 : (Jvm.Cond.privateMethod ({ cls := "RelicHouse$WorkReader", name := "step", desc := "()LRelicHouse$Step;" } : Jvm.MethodName)) ∈ lw_tbl := lw_at lw_m6 146 rfl
theorem q1446 : (Jvm.Cond.instanceMethod ({ cls := "RelicHouse$WorkReader", name := "step", desc := "()LRelicHouse$Step;" } : Jvm.MethodName)) ∈ lw_all := lw_g (lw_at lw_m6 147 rfl) rfl
theorem q1447 : (Jvm.Cond.code ({ cls := "RelicHouse$WorkReader", name := "step", desc := "()LRelicHouse$Step;" } : Jvm.MethodName) prog_30_method_5_code (5 : Nat) (Option.some (Jvm.ClassFile.FieldType.object "RelicHouse$Step"))) ∈ lw_all := lw_g (lw_at lw_m6 148 rfl) rfl
theorem q1448 : (Jvm.Cond.methodLink "RelicHouse$WorkReader" (54 : Nat) ({ cls := "RelicHouse$WorkReader", name := "word", desc := "()Ljava/lang/String;" } : Jvm.MethodName)) ∈ lw_all := lw_g (lw_at lw_m6 149 rfl) rfl
theorem q1449 : (Jvm.Cond.sameMethod "RelicHouse$WorkReader" "RelicHouse$Reader" "word" "()Ljava/lang/String;") ∈ lw_all := lw_g (lw_at lw_m6 150 rfl) rfl
theorem q1450 : (Jvm.Cond.selects "RelicHouse$WorkReader" ({ cls := "RelicHouse$WorkReader", name := "word", desc := "()Ljava/lang/String;" } : Jvm.MethodName) ({ cls := "RelicHouse$Reader", name := "word", desc := "()Ljava/lang/String;" } : Jvm.MethodName)) ∈ lw_all := lw_g (lw_at lw_m6 151 rfl) rfl
theorem q1451 : (Jvm.Cond.methodLink "RelicHouse$WorkReader" (58 : Nat) ({ cls := "java/lang/String", name := "hashCode", desc := "()I" } : Jvm.MethodName)) ∈ lw_all := lw_g (lw_at lw_m6 152 rfl) rfl
theorem q1452 : (Jvm.Cond.stringRef "RelicHouse$WorkReader" (63 : Nat) "give") ∈ lw_tbl := lw_at lw_m6 153 rfl
theorem q1453 : (Jvm.Cond.methodLink "RelicHouse$WorkReader" (65 : Nat) ({ cls := "java/lang/String", name := "equals", desc := "(Ljava/lang/Object;)Z" } : Jvm.MethodName)) ∈ lw_all := lw_g (lw_at lw_m6 154 rfl) rfl
theorem q1454 : (Jvm.Cond.stringRef "RelicHouse$WorkReader" (68 : Nat) "back") ∈ lw_tbl := lw_at lw_m6 155 rfl
theorem q1455 : (Jvm.Cond.stringRef "RelicHouse$WorkReader" (70 : Nat) "lapse") ∈ lw_tbl := lw_at lw_m6 156 rfl
theorem q1456 : (Jvm.Cond.stringRef "RelicHouse$WorkReader" (72 : Nat) "cure") ∈ lw_tbl := lw_at lw_m6 157 rfl
theorem q1457 : (Jvm.Cond.stringRef "RelicHouse$WorkReader" (74 : Nat) "die") ∈ lw_tbl := lw_at lw_m6 158 rfl
theorem q1458 : (Jvm.Cond.stringRef "RelicHouse$WorkReader" (76 : Nat) "day") ∈ lw_tbl := lw_at lw_m6 159 rfl
theorem q1459 : (Jvm.Cond.stringRef "RelicHouse$WorkReader" (78 : Nat) "again") ∈ lw_tbl := lw_at lw_m6 160 rfl
theorem q1460 : (Jvm.Cond.methodLink "RelicHouse$WorkReader" (80 : Nat) ({ cls := "java/lang/String", name := "length", desc := "()I" } : Jvm.MethodName)) ∈ lw_all := lw_g (lw_at lw_m6 161 rfl) rfl
theorem q1461 : (Jvm.Cond.methodLink "RelicHouse$WorkReader" (83 : Nat) ({ cls := "RelicHouse$WorkReader", name := "act", desc := "(Ljava/lang/String;)LRelicHouse$Step;" } : Jvm.MethodName)) ∈ lw_all := lw_g (lw_at lw_m6 162 rfl) rfl
theorem q1462 : (Jvm.Cond.privateMethod ({ cls := "RelicHouse$WorkReader", name := "act", desc := "(Ljava/lang/String;)LRelicHouse$Step;" } : Jvm.MethodName)) ∈ lw_tbl := lw_at lw_m6 163 rfl
theorem q1463 : (Jvm.Cond.instanceMethod ({ cls := "RelicHouse$WorkReader", name := "act", desc := "(Ljava/lang/String;)LRelicHouse$Step;" } : Jvm.MethodName)) ∈ lw_all := lw_g (lw_at lw_m6 164 rfl) rfl
theorem q1464 : (Jvm.Cond.code ({ cls := "RelicHouse$WorkReader", name := "act", desc := "(Ljava/lang/String;)LRelicHouse$Step;" } : Jvm.MethodName) prog_30_method_6_code (5 : Nat) (Option.some (Jvm.ClassFile.FieldType.object "RelicHouse$Step"))) ∈ lw_all := lw_g (lw_at lw_m6 165 rfl) rfl
theorem q1465 : (Jvm.Cond.classLink "RelicHouse$WorkReader" (96 : Nat) "RelicHouse$Gives") ∈ lw_all := lw_g (lw_at lw_m6 166 rfl) rfl
theorem q1467 : (Jvm.Cond.methodLink "RelicHouse$WorkReader" (98 : Nat) ({ cls := "RelicHouse$WorkReader", name := "relic", desc := "()I" } : Jvm.MethodName)) ∈ lw_all := lw_g (lw_at lw_m6 168 rfl) rfl
theorem q1468 : (Jvm.Cond.privateMethod ({ cls := "RelicHouse$WorkReader", name := "relic", desc := "()I" } : Jvm.MethodName)) ∈ lw_tbl := lw_at lw_m6 169 rfl
theorem q1469 : (Jvm.Cond.instanceMethod ({ cls := "RelicHouse$WorkReader", name := "relic", desc := "()I" } : Jvm.MethodName)) ∈ lw_all := lw_g (lw_at lw_m6 170 rfl) rfl
theorem q1470 : (Jvm.Cond.code ({ cls := "RelicHouse$WorkReader", name := "relic", desc := "()I" } : Jvm.MethodName) prog_30_method_3_code (1 : Nat) (Option.some Jvm.ClassFile.FieldType.int)) ∈ lw_all := lw_g (lw_at lw_m6 171 rfl) rfl
theorem q1471 : (Jvm.Cond.methodLink "RelicHouse$WorkReader" (45 : Nat) ({ cls := "java/util/ArrayList", name := "size", desc := "()I" } : Jvm.MethodName)) ∈ lw_all := lw_g (lw_at lw_m6 172 rfl) rfl
theorem q1472 : (Jvm.Cond.methodLink "RelicHouse$WorkReader" (47 : Nat) ({ cls := "RelicHouse$WorkReader", name := "number", desc := "(II)I" } : Jvm.MethodName)) ∈ lw_all := lw_g (lw_at lw_m6 173 rfl) rfl
theorem q1473 : (Jvm.Cond.sameMethod "RelicHouse$WorkReader" "RelicHouse$Reader" "number" "(II)I") ∈ lw_all := lw_g (lw_at lw_m6 174 rfl) rfl
theorem q1474 : (Jvm.Cond.selects "RelicHouse$WorkReader" ({ cls := "RelicHouse$WorkReader", name := "number", desc := "(II)I" } : Jvm.MethodName) ({ cls := "RelicHouse$Reader", name := "number", desc := "(II)I" } : Jvm.MethodName)) ∈ lw_all := lw_g (lw_at lw_m6 175 rfl) rfl
theorem q1475 : (Jvm.Cond.methodLink "RelicHouse$WorkReader" (101 : Nat) ({ cls := "RelicHouse$Gives", name := "<init>", desc := "(I)V" } : Jvm.MethodName)) ∈ lw_all := lw_g (lw_at lw_m6 176 rfl) rfl
theorem q1489 : (Jvm.Cond.classLink "RelicHouse$WorkReader" (102 : Nat) "RelicHouse$Backs") ∈ lw_all := lw_g (lw_at lw_m6 190 rfl) rfl
theorem q1491 : (Jvm.Cond.methodLink "RelicHouse$WorkReader" (104 : Nat) ({ cls := "RelicHouse$Backs", name := "<init>", desc := "(I)V" } : Jvm.MethodName)) ∈ lw_all := lw_g (lw_at lw_m6 192 rfl) rfl
theorem q1499 : (Jvm.Cond.classLink "RelicHouse$WorkReader" (105 : Nat) "RelicHouse$Lapses") ∈ lw_all := lw_g (lw_at lw_m6 200 rfl) rfl
theorem q1501 : (Jvm.Cond.methodLink "RelicHouse$WorkReader" (107 : Nat) ({ cls := "RelicHouse$WorkReader", name := "sister", desc := "()I" } : Jvm.MethodName)) ∈ lw_all := lw_g (lw_at lw_m6 202 rfl) rfl
theorem q1502 : (Jvm.Cond.privateMethod ({ cls := "RelicHouse$WorkReader", name := "sister", desc := "()I" } : Jvm.MethodName)) ∈ lw_tbl := lw_at lw_m6 203 rfl
theorem q1503 : (Jvm.Cond.instanceMethod ({ cls := "RelicHouse$WorkReader", name := "sister", desc := "()I" } : Jvm.MethodName)) ∈ lw_all := lw_g (lw_at lw_m6 204 rfl) rfl
theorem q1504 : (Jvm.Cond.code ({ cls := "RelicHouse$WorkReader", name := "sister", desc := "()I" } : Jvm.MethodName) prog_30_method_4_code (1 : Nat) (Option.some Jvm.ClassFile.FieldType.int)) ∈ lw_all := lw_g (lw_at lw_m6 205 rfl) rfl
theorem q1505 : (Jvm.Cond.methodLink "RelicHouse$WorkReader" (110 : Nat) ({ cls := "RelicHouse$Lapses", name := "<init>", desc := "(I)V" } : Jvm.MethodName)) ∈ lw_all := lw_g (lw_at lw_m6 206 rfl) rfl
theorem q1513 : (Jvm.Cond.classLink "RelicHouse$WorkReader" (111 : Nat) "RelicHouse$Cures") ∈ lw_all := lw_g (lw_at lw_m6 214 rfl) rfl
theorem q1515 : (Jvm.Cond.methodLink "RelicHouse$WorkReader" (116 : Nat) ({ cls := "RelicHouse$Cures", name := "<init>", desc := "(II)V" } : Jvm.MethodName)) ∈ lw_all := lw_g (lw_at lw_m6 216 rfl) rfl
theorem q1526 : (Jvm.Cond.classLink "RelicHouse$WorkReader" (119 : Nat) "RelicHouse$Dies") ∈ lw_all := lw_g (lw_at lw_m6 227 rfl) rfl
theorem q1528 : (Jvm.Cond.methodLink "RelicHouse$WorkReader" (121 : Nat) ({ cls := "RelicHouse$Dies", name := "<init>", desc := "(I)V" } : Jvm.MethodName)) ∈ lw_all := lw_g (lw_at lw_m6 229 rfl) rfl
theorem q1536 : (Jvm.Cond.classLink "RelicHouse$WorkReader" (122 : Nat) "RelicHouse$Next") ∈ lw_all := lw_g (lw_at lw_m6 237 rfl) rfl
theorem q1538 : (Jvm.Cond.methodLinkNest "RelicHouse$WorkReader" (124 : Nat) ({ cls := "RelicHouse$Next", name := "<init>", desc := "()V" } : Jvm.MethodName) "RelicHouse") ∈ lw_tbl := lw_at lw_m6 239 rfl
theorem q1543 : (Jvm.Cond.methodLink "RelicHouse$WorkReader" (87 : Nat) ({ cls := "RelicHouse$WorkReader", name := "again", desc := "()LRelicHouse$Step;" } : Jvm.MethodName)) ∈ lw_all := lw_g (lw_at lw_m7 4 rfl) rfl
theorem q1544 : (Jvm.Cond.privateMethod ({ cls := "RelicHouse$WorkReader", name := "again", desc := "()LRelicHouse$Step;" } : Jvm.MethodName)) ∈ lw_tbl := lw_at lw_m7 5 rfl
theorem q1545 : (Jvm.Cond.instanceMethod ({ cls := "RelicHouse$WorkReader", name := "again", desc := "()LRelicHouse$Step;" } : Jvm.MethodName)) ∈ lw_all := lw_g (lw_at lw_m7 6 rfl) rfl
theorem q1546 : (Jvm.Cond.code ({ cls := "RelicHouse$WorkReader", name := "again", desc := "()LRelicHouse$Step;" } : Jvm.MethodName) prog_30_method_7_code (2 : Nat) (Option.some (Jvm.ClassFile.FieldType.object "RelicHouse$Step"))) ∈ lw_all := lw_g (lw_at lw_m7 7 rfl) rfl
theorem q1547 : (Jvm.Cond.methodLink "RelicHouse$WorkReader" (127 : Nat) ({ cls := "RelicHouse$WorkReader", name := "opens", desc := "(I)V" } : Jvm.MethodName)) ∈ lw_all := lw_g (lw_at lw_m7 8 rfl) rfl
theorem q1548 : (Jvm.Cond.sameMethod "RelicHouse$WorkReader" "RelicHouse$Reader" "opens" "(I)V") ∈ lw_all := lw_g (lw_at lw_m7 9 rfl) rfl
theorem q1549 : (Jvm.Cond.selects "RelicHouse$WorkReader" ({ cls := "RelicHouse$WorkReader", name := "opens", desc := "(I)V" } : Jvm.MethodName) ({ cls := "RelicHouse$Reader", name := "opens", desc := "(I)V" } : Jvm.MethodName)) ∈ lw_all := lw_g (lw_at lw_m7 10 rfl) rfl
theorem q1550 : (Jvm.Cond.classLink "RelicHouse$WorkReader" (130 : Nat) "RelicHouse$Again") ∈ lw_all := lw_g (lw_at lw_m7 11 rfl) rfl
theorem q1552 : (Jvm.Cond.methodLink "RelicHouse$WorkReader" (132 : Nat) ({ cls := "RelicHouse$Again", name := "<init>", desc := "(I)V" } : Jvm.MethodName)) ∈ lw_all := lw_g (lw_at lw_m7 13 rfl) rfl
theorem q1560 : (Jvm.Cond.fieldLinkNest "RelicHouse$WorkReader" (133 : Nat) "RelicHouse$Again" "steps" "Ljava/util/ArrayList;" "RelicHouse") ∈ lw_tbl := lw_at lw_m7 21 rfl
theorem q1566 : (Jvm.Cond.methodLink "RelicHouse$WorkReader" (93 : Nat) ({ cls := "RelicHouse$WorkReader", name := "need", desc := "(I)V" } : Jvm.MethodName)) ∈ lw_all := lw_g (lw_at lw_m7 27 rfl) rfl
theorem q1567 : (Jvm.Cond.sameMethod "RelicHouse$WorkReader" "RelicHouse$Reader" "need" "(I)V") ∈ lw_all := lw_g (lw_at lw_m7 28 rfl) rfl
theorem q1568 : (Jvm.Cond.selects "RelicHouse$WorkReader" ({ cls := "RelicHouse$WorkReader", name := "need", desc := "(I)V" } : Jvm.MethodName) ({ cls := "RelicHouse$Reader", name := "need", desc := "(I)V" } : Jvm.MethodName)) ∈ lw_all := lw_g (lw_at lw_m7 29 rfl) rfl
theorem q1569 : (Jvm.Cond.methodLink "RelicHouse$WorkReader" (35 : Nat) ({ cls := "java/util/ArrayList", name := "add", desc := "(Ljava/lang/Object;)Z" } : Jvm.MethodName)) ∈ lw_all := lw_g (lw_at lw_m7 30 rfl) rfl
theorem q1570 : (Jvm.Cond.methodLink "RelicHouse$WorkReader" (89 : Nat) ({ cls := "RelicHouse$WorkReader", name := "wrong", desc := "()LRelicHouse$Wrong;" } : Jvm.MethodName)) ∈ lw_all := lw_g (lw_at lw_m7 31 rfl) rfl
theorem q1571 : (Jvm.Cond.sameMethod "RelicHouse$WorkReader" "RelicHouse$Reader" "wrong" "()LRelicHouse$Wrong;") ∈ lw_all := lw_g (lw_at lw_m7 32 rfl) rfl
theorem q1572 : (Jvm.Cond.selects "RelicHouse$WorkReader" ({ cls := "RelicHouse$WorkReader", name := "wrong", desc := "()LRelicHouse$Wrong;" } : Jvm.MethodName) ({ cls := "RelicHouse$Reader", name := "wrong", desc := "()LRelicHouse$Wrong;" } : Jvm.MethodName)) ∈ lw_all := lw_g (lw_at lw_m7 33 rfl) rfl
theorem q2590 : (Jvm.Cond.selects "RelicHouse$WorkReader" ({ cls := "RelicHouse$Reader", name := "sign", desc := "()I" } : Jvm.MethodName) ({ cls := "RelicHouse$Reader", name := "sign", desc := "()I" } : Jvm.MethodName)) ∈ lw_all := lw_g (lw_at lw_m11 91 rfl) rfl
theorem q2597 : (Jvm.Cond.selects "RelicHouse$WorkReader" ({ cls := "RelicHouse$Reader", name := "wrong", desc := "()LRelicHouse$Wrong;" } : Jvm.MethodName) ({ cls := "RelicHouse$Reader", name := "wrong", desc := "()LRelicHouse$Wrong;" } : Jvm.MethodName)) ∈ lw_all := lw_g (lw_at lw_m11 98 rfl) rfl
theorem q2629 : (Jvm.Cond.castable "RelicHouse$WorkReader" "java/lang/Object") ∈ lw_tbl := lw_at lw_m11 130 rfl
theorem in_X22 : ∀ w ∈ wsX220, w ∈ lw_all := lw_in wsX220 [1429, 1430, 1431, 1432, 1433, 1427] (by decide +kernel) (by decide +kernel)
/-! RelicHouse$Step -/
def RX23 : String := "RelicHouse$Step"
abbrev cX23_init : ByteArray := prog_25_method_1_code
def yX23_init : MethodName := ⟨RX23, "<init>", "()V"⟩
abbrev cX23_may : ByteArray := prog_25_method_3_code
def yX23_may : MethodName := ⟨RX23, "may", "(LRelicHouse$House;)Z"⟩
theorem q141 : (Jvm.Cond.initialized "RelicHouse$Step") ∈ lw_all := lw_g (lw_at lw_m1 42 rfl) rfl
theorem q622 : (Jvm.Cond.fieldLinkNest "RelicHouse$Step" (9 : Nat) "RelicHouse$House" "steps" "I" "RelicHouse") ∈ lw_tbl := lw_at lw_m3 43 rfl
theorem q1482 : (Jvm.Cond.instanceMethod ({ cls := "RelicHouse$Step", name := "<init>", desc := "()V" } : Jvm.MethodName)) ∈ lw_all := lw_g (lw_at lw_m6 183 rfl) rfl
theorem q1483 : (Jvm.Cond.code ({ cls := "RelicHouse$Step", name := "<init>", desc := "()V" } : Jvm.MethodName) prog_25_method_1_code (1 : Nat) (Option.none : Option Jvm.ClassFile.FieldType)) ∈ lw_all := lw_g (lw_at lw_m6 184 rfl) rfl
theorem q1484 : (Jvm.Cond.methodLink "RelicHouse$Step" (3 : Nat) ({ cls := "java/lang/Object", name := "<init>", desc := "()V" } : Jvm.MethodName)) ∈ lw_all := lw_g (lw_at lw_m6 185 rfl) rfl
theorem q1575 : (Jvm.Cond.declares ({ cls := "RelicHouse$Step", name := "goes", desc := "(LRelicHouse$House;)V" } : Jvm.MethodName)) ∈ lw_tbl := lw_at lw_m7 36 rfl
theorem q1576 : (Jvm.Cond.sameMethod "RelicHouse$Step" "RelicHouse$Step" "goes" "(LRelicHouse$House;)V") ∈ lw_all := lw_g (lw_at lw_m7 37 rfl) rfl
theorem q1582 : (Jvm.Cond.static ({ cls := "RelicHouse$Step", name := "may", desc := "(LRelicHouse$House;)Z" } : Jvm.MethodName)) ∈ lw_all := lw_g (lw_at lw_m7 43 rfl) rfl
theorem q1583 : (Jvm.Cond.code ({ cls := "RelicHouse$Step", name := "may", desc := "(LRelicHouse$House;)Z" } : Jvm.MethodName) prog_25_method_3_code (1 : Nat) (Option.some Jvm.ClassFile.FieldType.boolean)) ∈ lw_all := lw_g (lw_at lw_m7 44 rfl) rfl
/-! RelicHouse$Act -/
def RX24 : String := "RelicHouse$Act"
abbrev cX24_init : ByteArray := prog_2_method_1_code
def yX24_init : MethodName := ⟨RX24, "<init>", "()V"⟩
abbrev cX24_goes : ByteArray := prog_2_method_3_code
def yX24_goes : MethodName := ⟨RX24, "goes", "(LRelicHouse$House;)V"⟩
theorem q142 : (Jvm.Cond.initialized "RelicHouse$Act") ∈ lw_all := lw_g (lw_at lw_m1 43 rfl) rfl
theorem q624 : (Jvm.Cond.fieldLinkNest "RelicHouse$Act" (16 : Nat) "RelicHouse$House" "done" "I" "RelicHouse") ∈ lw_tbl := lw_at lw_m3 45 rfl
theorem q626 : (Jvm.Cond.fieldLinkNest "RelicHouse$Act" (22 : Nat) "RelicHouse$House" "refused" "I" "RelicHouse") ∈ lw_tbl := lw_at lw_m3 47 rfl
theorem q1479 : (Jvm.Cond.instanceMethod ({ cls := "RelicHouse$Act", name := "<init>", desc := "()V" } : Jvm.MethodName)) ∈ lw_all := lw_g (lw_at lw_m6 180 rfl) rfl
theorem q1480 : (Jvm.Cond.code ({ cls := "RelicHouse$Act", name := "<init>", desc := "()V" } : Jvm.MethodName) prog_2_method_1_code (1 : Nat) (Option.none : Option Jvm.ClassFile.FieldType)) ∈ lw_all := lw_g (lw_at lw_m6 181 rfl) rfl
theorem q1481 : (Jvm.Cond.methodLinkNest "RelicHouse$Act" (1 : Nat) ({ cls := "RelicHouse$Step", name := "<init>", desc := "()V" } : Jvm.MethodName) "RelicHouse") ∈ lw_tbl := lw_at lw_m6 182 rfl
theorem q1588 : (Jvm.Cond.instanceMethod ({ cls := "RelicHouse$Act", name := "goes", desc := "(LRelicHouse$House;)V" } : Jvm.MethodName)) ∈ lw_all := lw_g (lw_at lw_m7 49 rfl) rfl
theorem q1589 : (Jvm.Cond.code ({ cls := "RelicHouse$Act", name := "goes", desc := "(LRelicHouse$House;)V" } : Jvm.MethodName) prog_2_method_3_code (3 : Nat) (Option.none : Option Jvm.ClassFile.FieldType)) ∈ lw_all := lw_g (lw_at lw_m7 50 rfl) rfl
theorem q1590 : (Jvm.Cond.methodLink "RelicHouse$Act" (7 : Nat) ({ cls := "RelicHouse$Act", name := "may", desc := "(LRelicHouse$House;)Z" } : Jvm.MethodName)) ∈ lw_all := lw_g (lw_at lw_m7 51 rfl) rfl
theorem q1591 : (Jvm.Cond.sameMethod "RelicHouse$Act" "RelicHouse$Step" "may" "(LRelicHouse$House;)Z") ∈ lw_all := lw_g (lw_at lw_m7 52 rfl) rfl
theorem q1592 : (Jvm.Cond.methodLink "RelicHouse$Act" (13 : Nat) ({ cls := "RelicHouse$Act", name := "isDone", desc := "(LRelicHouse$House;)Z" } : Jvm.MethodName)) ∈ lw_all := lw_g (lw_at lw_m7 53 rfl) rfl
theorem q1593 : (Jvm.Cond.declares ({ cls := "RelicHouse$Act", name := "isDone", desc := "(LRelicHouse$House;)Z" } : Jvm.MethodName)) ∈ lw_tbl := lw_at lw_m7 54 rfl
theorem q1594 : (Jvm.Cond.sameMethod "RelicHouse$Act" "RelicHouse$Act" "isDone" "(LRelicHouse$House;)Z") ∈ lw_all := lw_g (lw_at lw_m7 55 rfl) rfl
/-! RelicHouse$Gives -/
def RX25 : String := "RelicHouse$Gives"
def TX25 : u_T := fun k => match k with
  | _ => ("RelicHouse$Gives", "relic", "I", true)
def tyX25 : Nat → FieldType := fun k => match k with
  | _ => .int
abbrev wsX250 : List Cond := u_ws RX25 TX25 1
theorem nmX25 : ∀ a, a < 1 → ∀ b, b < 1 → a ≠ b → (TX25 a).2.1 ≠ (TX25 b).2.1 := by decide +kernel
theorem tyX25_ok : ∀ k, k < 1 → parseFieldDescriptor (TX25 k).2.2.1 = some (tyX25 k) := by decide +kernel
abbrev cX25_init : ByteArray := prog_9_method_1_code
def yX25_init : MethodName := ⟨RX25, "<init>", "(I)V"⟩
abbrev cX25_isDone : ByteArray := prog_9_method_2_code
def yX25_isDone : MethodName := ⟨RX25, "isDone", "(LRelicHouse$House;)Z"⟩
theorem q143 : (Jvm.Cond.initialized "RelicHouse$Gives") ∈ lw_all := lw_g (lw_at lw_m1 44 rfl) rfl
theorem q1230 : (Jvm.Cond.selects "RelicHouse$Gives" ({ cls := "java/lang/Object", name := "getClass", desc := "()Ljava/lang/Class;" } : Jvm.MethodName) ({ cls := "java/lang/Object", name := "getClass", desc := "()Ljava/lang/Class;" } : Jvm.MethodName)) ∈ lw_all := lw_g (lw_at lw_m5 171 rfl) rfl
theorem q1466 : (Jvm.Cond.instantiable "RelicHouse$Gives" (1 : Nat)) ∈ lw_all := lw_g (lw_at lw_m6 167 rfl) rfl
theorem q1476 : (Jvm.Cond.instanceMethod ({ cls := "RelicHouse$Gives", name := "<init>", desc := "(I)V" } : Jvm.MethodName)) ∈ lw_all := lw_g (lw_at lw_m6 177 rfl) rfl
theorem q1477 : (Jvm.Cond.code ({ cls := "RelicHouse$Gives", name := "<init>", desc := "(I)V" } : Jvm.MethodName) prog_9_method_1_code (2 : Nat) (Option.none : Option Jvm.ClassFile.FieldType)) ∈ lw_all := lw_g (lw_at lw_m6 178 rfl) rfl
theorem q1478 : (Jvm.Cond.methodLinkNest "RelicHouse$Gives" (1 : Nat) ({ cls := "RelicHouse$Act", name := "<init>", desc := "()V" } : Jvm.MethodName) "RelicHouse") ∈ lw_tbl := lw_at lw_m6 179 rfl
theorem q1485 : (Jvm.Cond.fieldLink "RelicHouse$Gives" (7 : Nat) "RelicHouse$Gives" "relic" "I") ∈ lw_all := lw_g (lw_at lw_m6 186 rfl) rfl
theorem q1486 : (Jvm.Cond.laysFinal "RelicHouse$Gives" "RelicHouse$Gives" "relic" "I") ∈ lw_all := lw_g (lw_at lw_m6 187 rfl) rfl
theorem q1487 : (Jvm.Cond.soleField "RelicHouse$Gives" "relic") ∈ lw_all := lw_g (lw_at lw_m6 188 rfl) rfl
theorem q1488 : (Jvm.Cond.superclass "RelicHouse$Gives" "RelicHouse$Act") ∈ lw_all := lw_g (lw_at lw_m6 189 rfl) rfl
theorem q1617 : (Jvm.Cond.selects "RelicHouse$Gives" ({ cls := "RelicHouse$Act", name := "isDone", desc := "(LRelicHouse$House;)Z" } : Jvm.MethodName) ({ cls := "RelicHouse$Gives", name := "isDone", desc := "(LRelicHouse$House;)Z" } : Jvm.MethodName)) ∈ lw_all := lw_g (lw_at lw_m7 78 rfl) rfl
theorem q1618 : (Jvm.Cond.instanceMethod ({ cls := "RelicHouse$Gives", name := "isDone", desc := "(LRelicHouse$House;)Z" } : Jvm.MethodName)) ∈ lw_all := lw_g (lw_at lw_m7 79 rfl) rfl
theorem q1619 : (Jvm.Cond.code ({ cls := "RelicHouse$Gives", name := "isDone", desc := "(LRelicHouse$House;)Z" } : Jvm.MethodName) prog_9_method_2_code (2 : Nat) (Option.some Jvm.ClassFile.FieldType.boolean)) ∈ lw_all := lw_g (lw_at lw_m7 80 rfl) rfl
theorem q1620 : (Jvm.Cond.methodLink "RelicHouse$Gives" (13 : Nat) ({ cls := "RelicHouse$House", name := "gives", desc := "(I)Z" } : Jvm.MethodName)) ∈ lw_all := lw_g (lw_at lw_m7 81 rfl) rfl
theorem q1646 : (Jvm.Cond.selects "RelicHouse$Gives" ({ cls := "RelicHouse$Step", name := "goes", desc := "(LRelicHouse$House;)V" } : Jvm.MethodName) ({ cls := "RelicHouse$Act", name := "goes", desc := "(LRelicHouse$House;)V" } : Jvm.MethodName)) ∈ lw_all := lw_g (lw_at lw_m7 107 rfl) rfl
theorem q2603 : (Jvm.Cond.castable "RelicHouse$Gives" "RelicHouse$Step") ∈ lw_tbl := lw_at lw_m11 104 rfl
theorem q2630 : (Jvm.Cond.castable "RelicHouse$Gives" "java/lang/Object") ∈ lw_tbl := lw_at lw_m11 131 rfl
theorem in_X25 : ∀ w ∈ wsX250, w ∈ lw_all := lw_in wsX250 [1486] (by decide +kernel) (by decide +kernel)
/-! RelicHouse$Backs -/
def RX26 : String := "RelicHouse$Backs"
def TX26 : u_T := fun k => match k with
  | _ => ("RelicHouse$Backs", "relic", "I", true)
def tyX26 : Nat → FieldType := fun k => match k with
  | _ => .int
abbrev wsX260 : List Cond := u_ws RX26 TX26 1
theorem nmX26 : ∀ a, a < 1 → ∀ b, b < 1 → a ≠ b → (TX26 a).2.1 ≠ (TX26 b).2.1 := by decide +kernel
theorem tyX26_ok : ∀ k, k < 1 → parseFieldDescriptor (TX26 k).2.2.1 = some (tyX26 k) := by decide +kernel
abbrev cX26_init : ByteArray := prog_4_method_1_code
def yX26_init : MethodName := ⟨RX26, "<init>", "(I)V"⟩
abbrev cX26_isDone : ByteArray := prog_4_method_2_code
def yX26_isDone : MethodName := ⟨RX26, "isDone", "(LRelicHouse$House;)Z"⟩
theorem q144 : (Jvm.Cond.initialized "RelicHouse$Backs") ∈ lw_all := lw_g (lw_at lw_m1 45 rfl) rfl
theorem q1225 : (Jvm.Cond.selects "RelicHouse$Backs" ({ cls := "java/lang/Object", name := "getClass", desc := "()Ljava/lang/Class;" } : Jvm.MethodName) ({ cls := "java/lang/Object", name := "getClass", desc := "()Ljava/lang/Class;" } : Jvm.MethodName)) ∈ lw_all := lw_g (lw_at lw_m5 166 rfl) rfl
theorem q1490 : (Jvm.Cond.instantiable "RelicHouse$Backs" (1 : Nat)) ∈ lw_all := lw_g (lw_at lw_m6 191 rfl) rfl
theorem q1492 : (Jvm.Cond.instanceMethod ({ cls := "RelicHouse$Backs", name := "<init>", desc := "(I)V" } : Jvm.MethodName)) ∈ lw_all := lw_g (lw_at lw_m6 193 rfl) rfl
theorem q1493 : (Jvm.Cond.code ({ cls := "RelicHouse$Backs", name := "<init>", desc := "(I)V" } : Jvm.MethodName) prog_4_method_1_code (2 : Nat) (Option.none : Option Jvm.ClassFile.FieldType)) ∈ lw_all := lw_g (lw_at lw_m6 194 rfl) rfl
theorem q1494 : (Jvm.Cond.methodLinkNest "RelicHouse$Backs" (1 : Nat) ({ cls := "RelicHouse$Act", name := "<init>", desc := "()V" } : Jvm.MethodName) "RelicHouse") ∈ lw_tbl := lw_at lw_m6 195 rfl
theorem q1495 : (Jvm.Cond.fieldLink "RelicHouse$Backs" (7 : Nat) "RelicHouse$Backs" "relic" "I") ∈ lw_all := lw_g (lw_at lw_m6 196 rfl) rfl
theorem q1496 : (Jvm.Cond.laysFinal "RelicHouse$Backs" "RelicHouse$Backs" "relic" "I") ∈ lw_all := lw_g (lw_at lw_m6 197 rfl) rfl
theorem q1497 : (Jvm.Cond.soleField "RelicHouse$Backs" "relic") ∈ lw_all := lw_g (lw_at lw_m6 198 rfl) rfl
theorem q1498 : (Jvm.Cond.superclass "RelicHouse$Backs" "RelicHouse$Act") ∈ lw_all := lw_g (lw_at lw_m6 199 rfl) rfl
theorem q1595 : (Jvm.Cond.selects "RelicHouse$Backs" ({ cls := "RelicHouse$Act", name := "isDone", desc := "(LRelicHouse$House;)Z" } : Jvm.MethodName) ({ cls := "RelicHouse$Backs", name := "isDone", desc := "(LRelicHouse$House;)Z" } : Jvm.MethodName)) ∈ lw_all := lw_g (lw_at lw_m7 56 rfl) rfl
theorem q1596 : (Jvm.Cond.instanceMethod ({ cls := "RelicHouse$Backs", name := "isDone", desc := "(LRelicHouse$House;)Z" } : Jvm.MethodName)) ∈ lw_all := lw_g (lw_at lw_m7 57 rfl) rfl
theorem q1597 : (Jvm.Cond.code ({ cls := "RelicHouse$Backs", name := "isDone", desc := "(LRelicHouse$House;)Z" } : Jvm.MethodName) prog_4_method_2_code (2 : Nat) (Option.some Jvm.ClassFile.FieldType.boolean)) ∈ lw_all := lw_g (lw_at lw_m7 58 rfl) rfl
theorem q1598 : (Jvm.Cond.methodLink "RelicHouse$Backs" (13 : Nat) ({ cls := "RelicHouse$House", name := "backs", desc := "(I)Z" } : Jvm.MethodName)) ∈ lw_all := lw_g (lw_at lw_m7 59 rfl) rfl
theorem q1643 : (Jvm.Cond.selects "RelicHouse$Backs" ({ cls := "RelicHouse$Step", name := "goes", desc := "(LRelicHouse$House;)V" } : Jvm.MethodName) ({ cls := "RelicHouse$Act", name := "goes", desc := "(LRelicHouse$House;)V" } : Jvm.MethodName)) ∈ lw_all := lw_g (lw_at lw_m7 104 rfl) rfl
theorem q2600 : (Jvm.Cond.castable "RelicHouse$Backs" "RelicHouse$Step") ∈ lw_tbl := lw_at lw_m11 101 rfl
theorem q2631 : (Jvm.Cond.castable "RelicHouse$Backs" "java/lang/Object") ∈ lw_tbl := lw_at lw_m11 132 rfl
theorem in_X26 : ∀ w ∈ wsX260, w ∈ lw_all := lw_in wsX260 [1496] (by decide +kernel) (by decide +kernel)
/-! RelicHouse$Lapses -/
def RX27 : String := "RelicHouse$Lapses"
def TX27 : u_T := fun k => match k with
  | _ => ("RelicHouse$Lapses", "sister", "I", true)
def tyX27 : Nat → FieldType := fun k => match k with
  | _ => .int
abbrev wsX270 : List Cond := u_ws RX27 TX27 1
theorem nmX27 : ∀ a, a < 1 → ∀ b, b < 1 → a ≠ b → (TX27 a).2.1 ≠ (TX27 b).2.1 := by decide +kernel
theorem tyX27_ok : ∀ k, k < 1 → parseFieldDescriptor (TX27 k).2.2.1 = some (tyX27 k) := by decide +kernel
abbrev cX27_init : ByteArray := prog_12_method_1_code
def yX27_init : MethodName := ⟨RX27, "<init>", "(I)V"⟩
abbrev cX27_isDone : ByteArray := prog_12_method_2_code
def yX27_isDone : MethodName := ⟨RX27, "isDone", "(LRelicHouse$House;)Z"⟩
theorem q145 : (Jvm.Cond.initialized "RelicHouse$Lapses") ∈ lw_all := lw_g (lw_at lw_m1 46 rfl) rfl
theorem q1233 : (Jvm.Cond.selects "RelicHouse$Lapses" ({ cls := "java/lang/Object", name := "getClass", desc := "()Ljava/lang/Class;" } : Jvm.MethodName) ({ cls := "java/lang/Object", name := "getClass", desc := "()Ljava/lang/Class;" } : Jvm.MethodName)) ∈ lw_all := lw_g (lw_at lw_m5 174 rfl) rfl
theorem q1500 : (Jvm.Cond.instantiable "RelicHouse$Lapses" (1 : Nat)) ∈ lw_all := lw_g (lw_at lw_m6 201 rfl) rfl
theorem q1506 : (Jvm.Cond.instanceMethod ({ cls := "RelicHouse$Lapses", name := "<init>", desc := "(I)V" } : Jvm.MethodName)) ∈ lw_all := lw_g (lw_at lw_m6 207 rfl) rfl
theorem q1507 : (Jvm.Cond.code ({ cls := "RelicHouse$Lapses", name := "<init>", desc := "(I)V" } : Jvm.MethodName) prog_12_method_1_code (2 : Nat) (Option.none : Option Jvm.ClassFile.FieldType)) ∈ lw_all := lw_g (lw_at lw_m6 208 rfl) rfl
theorem q1508 : (Jvm.Cond.methodLinkNest "RelicHouse$Lapses" (1 : Nat) ({ cls := "RelicHouse$Act", name := "<init>", desc := "()V" } : Jvm.MethodName) "RelicHouse") ∈ lw_tbl := lw_at lw_m6 209 rfl
theorem q1509 : (Jvm.Cond.fieldLink "RelicHouse$Lapses" (7 : Nat) "RelicHouse$Lapses" "sister" "I") ∈ lw_all := lw_g (lw_at lw_m6 210 rfl) rfl
theorem q1510 : (Jvm.Cond.laysFinal "RelicHouse$Lapses" "RelicHouse$Lapses" "sister" "I") ∈ lw_all := lw_g (lw_at lw_m6 211 rfl) rfl
theorem q1511 : (Jvm.Cond.soleField "RelicHouse$Lapses" "sister") ∈ lw_all := lw_g (lw_at lw_m6 212 rfl) rfl
theorem q1512 : (Jvm.Cond.superclass "RelicHouse$Lapses" "RelicHouse$Act") ∈ lw_all := lw_g (lw_at lw_m6 213 rfl) rfl
theorem q1624 : (Jvm.Cond.selects "RelicHouse$Lapses" ({ cls := "RelicHouse$Act", name := "isDone", desc := "(LRelicHouse$House;)Z" } : Jvm.MethodName) ({ cls := "RelicHouse$Lapses", name := "isDone", desc := "(LRelicHouse$House;)Z" } : Jvm.MethodName)) ∈ lw_all := lw_g (lw_at lw_m7 85 rfl) rfl
theorem q1625 : (Jvm.Cond.instanceMethod ({ cls := "RelicHouse$Lapses", name := "isDone", desc := "(LRelicHouse$House;)Z" } : Jvm.MethodName)) ∈ lw_all := lw_g (lw_at lw_m7 86 rfl) rfl
theorem q1626 : (Jvm.Cond.code ({ cls := "RelicHouse$Lapses", name := "isDone", desc := "(LRelicHouse$House;)Z" } : Jvm.MethodName) prog_12_method_2_code (2 : Nat) (Option.some Jvm.ClassFile.FieldType.boolean)) ∈ lw_all := lw_g (lw_at lw_m7 87 rfl) rfl
theorem q1627 : (Jvm.Cond.methodLink "RelicHouse$Lapses" (13 : Nat) ({ cls := "RelicHouse$House", name := "lapses", desc := "(I)Z" } : Jvm.MethodName)) ∈ lw_all := lw_g (lw_at lw_m7 88 rfl) rfl
theorem q1647 : (Jvm.Cond.selects "RelicHouse$Lapses" ({ cls := "RelicHouse$Step", name := "goes", desc := "(LRelicHouse$House;)V" } : Jvm.MethodName) ({ cls := "RelicHouse$Act", name := "goes", desc := "(LRelicHouse$House;)V" } : Jvm.MethodName)) ∈ lw_all := lw_g (lw_at lw_m7 108 rfl) rfl
theorem q2604 : (Jvm.Cond.castable "RelicHouse$Lapses" "RelicHouse$Step") ∈ lw_tbl := lw_at lw_m11 105 rfl
theorem q2632 : (Jvm.Cond.castable "RelicHouse$Lapses" "java/lang/Object") ∈ lw_tbl := lw_at lw_m11 133 rfl
theorem in_X27 : ∀ w ∈ wsX270, w ∈ lw_all := lw_in wsX270 [1510] (by decide +kernel) (by decide +kernel)
/-! RelicHouse$Cures -/
def RX28 : String := "RelicHouse$Cures"
def TX28 : u_T := fun k => match k with
  | 0 => ("RelicHouse$Cures", "relic", "I", true)
  | _ => ("RelicHouse$Cures", "pilgrim", "I", true)
def tyX28 : Nat → FieldType := fun k => match k with
  | 0 => .int
  | _ => .int
abbrev wsX280 : List Cond := u_ws RX28 TX28 2
theorem nmX28 : ∀ a, a < 2 → ∀ b, b < 2 → a ≠ b → (TX28 a).2.1 ≠ (TX28 b).2.1 := by decide +kernel
theorem tyX28_ok : ∀ k, k < 2 → parseFieldDescriptor (TX28 k).2.2.1 = some (tyX28 k) := by decide +kernel
abbrev cX28_init : ByteArray := prog_6_method_1_code
def yX28_init : MethodName := ⟨RX28, "<init>", "(II)V"⟩
abbrev cX28_isDone : ByteArray := prog_6_method_2_code
def yX28_isDone : MethodName := ⟨RX28, "isDone", "(LRelicHouse$House;)Z"⟩
theorem q146 : (Jvm.Cond.initialized "RelicHouse$Cures") ∈ lw_all := lw_g (lw_at lw_m1 47 rfl) rfl
theorem q1227 : (Jvm.Cond.selects "RelicHouse$Cures" ({ cls := "java/lang/Object", name := "getClass", desc := "()Ljava/lang/Class;" } : Jvm.MethodName) ({ cls := "java/lang/Object", name := "getClass", desc := "()Ljava/lang/Class;" } : Jvm.MethodName)) ∈ lw_all := lw_g (lw_at lw_m5 168 rfl) rfl
theorem q1514 : (Jvm.Cond.instantiable "RelicHouse$Cures" (2 : Nat)) ∈ lw_all := lw_g (lw_at lw_m6 215 rfl) rfl
theorem q1516 : (Jvm.Cond.instanceMethod ({ cls := "RelicHouse$Cures", name := "<init>", desc := "(II)V" } : Jvm.MethodName)) ∈ lw_all := lw_g (lw_at lw_m6 217 rfl) rfl
theorem q1517 : (Jvm.Cond.code ({ cls := "RelicHouse$Cures", name := "<init>", desc := "(II)V" } : Jvm.MethodName) prog_6_method_1_code (3 : Nat) (Option.none : Option Jvm.ClassFile.FieldType)) ∈ lw_all := lw_g (lw_at lw_m6 218 rfl) rfl
theorem q1518 : (Jvm.Cond.methodLinkNest "RelicHouse$Cures" (1 : Nat) ({ cls := "RelicHouse$Act", name := "<init>", desc := "()V" } : Jvm.MethodName) "RelicHouse") ∈ lw_tbl := lw_at lw_m6 219 rfl
theorem q1519 : (Jvm.Cond.fieldLink "RelicHouse$Cures" (7 : Nat) "RelicHouse$Cures" "relic" "I") ∈ lw_all := lw_g (lw_at lw_m6 220 rfl) rfl
theorem q1520 : (Jvm.Cond.fieldLink "RelicHouse$Cures" (13 : Nat) "RelicHouse$Cures" "pilgrim" "I") ∈ lw_all := lw_g (lw_at lw_m6 221 rfl) rfl
theorem q1521 : (Jvm.Cond.laysFinal "RelicHouse$Cures" "RelicHouse$Cures" "relic" "I") ∈ lw_all := lw_g (lw_at lw_m6 222 rfl) rfl
theorem q1522 : (Jvm.Cond.soleField "RelicHouse$Cures" "relic") ∈ lw_all := lw_g (lw_at lw_m6 223 rfl) rfl
theorem q1523 : (Jvm.Cond.laysFinal "RelicHouse$Cures" "RelicHouse$Cures" "pilgrim" "I") ∈ lw_all := lw_g (lw_at lw_m6 224 rfl) rfl
theorem q1524 : (Jvm.Cond.soleField "RelicHouse$Cures" "pilgrim") ∈ lw_all := lw_g (lw_at lw_m6 225 rfl) rfl
theorem q1525 : (Jvm.Cond.superclass "RelicHouse$Cures" "RelicHouse$Act") ∈ lw_all := lw_g (lw_at lw_m6 226 rfl) rfl
theorem q1602 : (Jvm.Cond.selects "RelicHouse$Cures" ({ cls := "RelicHouse$Act", name := "isDone", desc := "(LRelicHouse$House;)Z" } : Jvm.MethodName) ({ cls := "RelicHouse$Cures", name := "isDone", desc := "(LRelicHouse$House;)Z" } : Jvm.MethodName)) ∈ lw_all := lw_g (lw_at lw_m7 63 rfl) rfl
theorem q1603 : (Jvm.Cond.instanceMethod ({ cls := "RelicHouse$Cures", name := "isDone", desc := "(LRelicHouse$House;)Z" } : Jvm.MethodName)) ∈ lw_all := lw_g (lw_at lw_m7 64 rfl) rfl
theorem q1604 : (Jvm.Cond.code ({ cls := "RelicHouse$Cures", name := "isDone", desc := "(LRelicHouse$House;)Z" } : Jvm.MethodName) prog_6_method_2_code (2 : Nat) (Option.some Jvm.ClassFile.FieldType.boolean)) ∈ lw_all := lw_g (lw_at lw_m7 65 rfl) rfl
theorem q1605 : (Jvm.Cond.methodLink "RelicHouse$Cures" (16 : Nat) ({ cls := "RelicHouse$House", name := "cures", desc := "(II)Z" } : Jvm.MethodName)) ∈ lw_all := lw_g (lw_at lw_m7 66 rfl) rfl
theorem q1644 : (Jvm.Cond.selects "RelicHouse$Cures" ({ cls := "RelicHouse$Step", name := "goes", desc := "(LRelicHouse$House;)V" } : Jvm.MethodName) ({ cls := "RelicHouse$Act", name := "goes", desc := "(LRelicHouse$House;)V" } : Jvm.MethodName)) ∈ lw_all := lw_g (lw_at lw_m7 105 rfl) rfl
theorem q2601 : (Jvm.Cond.castable "RelicHouse$Cures" "RelicHouse$Step") ∈ lw_tbl := lw_at lw_m11 102 rfl
theorem q2633 : (Jvm.Cond.castable "RelicHouse$Cures" "java/lang/Object") ∈ lw_tbl := lw_at lw_m11 134 rfl
theorem in_X28 : ∀ w ∈ wsX280, w ∈ lw_all := lw_in wsX280 [1521, 1523] (by decide +kernel) (by decide +kernel)
/-! RelicHouse$Dies -/
def RX29 : String := "RelicHouse$Dies"
def TX29 : u_T := fun k => match k with
  | _ => ("RelicHouse$Dies", "sister", "I", true)
def tyX29 : Nat → FieldType := fun k => match k with
  | _ => .int
abbrev wsX290 : List Cond := u_ws RX29 TX29 1
theorem nmX29 : ∀ a, a < 1 → ∀ b, b < 1 → a ≠ b → (TX29 a).2.1 ≠ (TX29 b).2.1 := by decide +kernel
theorem tyX29_ok : ∀ k, k < 1 → parseFieldDescriptor (TX29 k).2.2.1 = some (tyX29 k) := by decide +kernel
abbrev cX29_init : ByteArray := prog_7_method_1_code
def yX29_init : MethodName := ⟨RX29, "<init>", "(I)V"⟩
abbrev cX29_isDone : ByteArray := prog_7_method_2_code
def yX29_isDone : MethodName := ⟨RX29, "isDone", "(LRelicHouse$House;)Z"⟩
theorem q147 : (Jvm.Cond.initialized "RelicHouse$Dies") ∈ lw_all := lw_g (lw_at lw_m1 48 rfl) rfl
theorem q1228 : (Jvm.Cond.selects "RelicHouse$Dies" ({ cls := "java/lang/Object", name := "getClass", desc := "()Ljava/lang/Class;" } : Jvm.MethodName) ({ cls := "java/lang/Object", name := "getClass", desc := "()Ljava/lang/Class;" } : Jvm.MethodName)) ∈ lw_all := lw_g (lw_at lw_m5 169 rfl) rfl
theorem q1527 : (Jvm.Cond.instantiable "RelicHouse$Dies" (1 : Nat)) ∈ lw_all := lw_g (lw_at lw_m6 228 rfl) rfl
theorem q1529 : (Jvm.Cond.instanceMethod ({ cls := "RelicHouse$Dies", name := "<init>", desc := "(I)V" } : Jvm.MethodName)) ∈ lw_all := lw_g (lw_at lw_m6 230 rfl) rfl
theorem q1530 : (Jvm.Cond.code ({ cls := "RelicHouse$Dies", name := "<init>", desc := "(I)V" } : Jvm.MethodName) prog_7_method_1_code (2 : Nat) (Option.none : Option Jvm.ClassFile.FieldType)) ∈ lw_all := lw_g (lw_at lw_m6 231 rfl) rfl
theorem q1531 : (Jvm.Cond.methodLinkNest "RelicHouse$Dies" (1 : Nat) ({ cls := "RelicHouse$Act", name := "<init>", desc := "()V" } : Jvm.MethodName) "RelicHouse") ∈ lw_tbl := lw_at lw_m6 232 rfl
theorem q1532 : (Jvm.Cond.fieldLink "RelicHouse$Dies" (7 : Nat) "RelicHouse$Dies" "sister" "I") ∈ lw_all := lw_g (lw_at lw_m6 233 rfl) rfl
theorem q1533 : (Jvm.Cond.laysFinal "RelicHouse$Dies" "RelicHouse$Dies" "sister" "I") ∈ lw_all := lw_g (lw_at lw_m6 234 rfl) rfl
theorem q1534 : (Jvm.Cond.soleField "RelicHouse$Dies" "sister") ∈ lw_all := lw_g (lw_at lw_m6 235 rfl) rfl
theorem q1535 : (Jvm.Cond.superclass "RelicHouse$Dies" "RelicHouse$Act") ∈ lw_all := lw_g (lw_at lw_m6 236 rfl) rfl
theorem q1610 : (Jvm.Cond.selects "RelicHouse$Dies" ({ cls := "RelicHouse$Act", name := "isDone", desc := "(LRelicHouse$House;)Z" } : Jvm.MethodName) ({ cls := "RelicHouse$Dies", name := "isDone", desc := "(LRelicHouse$House;)Z" } : Jvm.MethodName)) ∈ lw_all := lw_g (lw_at lw_m7 71 rfl) rfl
theorem q1611 : (Jvm.Cond.instanceMethod ({ cls := "RelicHouse$Dies", name := "isDone", desc := "(LRelicHouse$House;)Z" } : Jvm.MethodName)) ∈ lw_all := lw_g (lw_at lw_m7 72 rfl) rfl
theorem q1612 : (Jvm.Cond.code ({ cls := "RelicHouse$Dies", name := "isDone", desc := "(LRelicHouse$House;)Z" } : Jvm.MethodName) prog_7_method_2_code (2 : Nat) (Option.some Jvm.ClassFile.FieldType.boolean)) ∈ lw_all := lw_g (lw_at lw_m7 73 rfl) rfl
theorem q1613 : (Jvm.Cond.methodLink "RelicHouse$Dies" (13 : Nat) ({ cls := "RelicHouse$House", name := "dies", desc := "(I)Z" } : Jvm.MethodName)) ∈ lw_all := lw_g (lw_at lw_m7 74 rfl) rfl
theorem q1645 : (Jvm.Cond.selects "RelicHouse$Dies" ({ cls := "RelicHouse$Step", name := "goes", desc := "(LRelicHouse$House;)V" } : Jvm.MethodName) ({ cls := "RelicHouse$Act", name := "goes", desc := "(LRelicHouse$House;)V" } : Jvm.MethodName)) ∈ lw_all := lw_g (lw_at lw_m7 106 rfl) rfl
theorem q2602 : (Jvm.Cond.castable "RelicHouse$Dies" "RelicHouse$Step") ∈ lw_tbl := lw_at lw_m11 103 rfl
theorem q2634 : (Jvm.Cond.castable "RelicHouse$Dies" "java/lang/Object") ∈ lw_tbl := lw_at lw_m11 135 rfl
theorem in_X29 : ∀ w ∈ wsX290, w ∈ lw_all := lw_in wsX290 [1533] (by decide +kernel) (by decide +kernel)
/-! RelicHouse$Next -/
def RX30 : String := "RelicHouse$Next"
abbrev cX30_init : ByteArray := prog_18_method_1_code
def yX30_init : MethodName := ⟨RX30, "<init>", "()V"⟩
abbrev cX30_isDone : ByteArray := prog_18_method_2_code
def yX30_isDone : MethodName := ⟨RX30, "isDone", "(LRelicHouse$House;)Z"⟩
theorem q148 : (Jvm.Cond.initialized "RelicHouse$Next") ∈ lw_all := lw_g (lw_at lw_m1 49 rfl) rfl
theorem q1239 : (Jvm.Cond.selects "RelicHouse$Next" ({ cls := "java/lang/Object", name := "getClass", desc := "()Ljava/lang/Class;" } : Jvm.MethodName) ({ cls := "java/lang/Object", name := "getClass", desc := "()Ljava/lang/Class;" } : Jvm.MethodName)) ∈ lw_all := lw_g (lw_at lw_m5 180 rfl) rfl
theorem q1537 : (Jvm.Cond.instantiable "RelicHouse$Next" (0 : Nat)) ∈ lw_all := lw_g (lw_at lw_m6 238 rfl) rfl
theorem q1539 : (Jvm.Cond.instanceMethod ({ cls := "RelicHouse$Next", name := "<init>", desc := "()V" } : Jvm.MethodName)) ∈ lw_all := lw_g (lw_at lw_m7 0 rfl) rfl
theorem q1540 : (Jvm.Cond.code ({ cls := "RelicHouse$Next", name := "<init>", desc := "()V" } : Jvm.MethodName) prog_18_method_1_code (1 : Nat) (Option.none : Option Jvm.ClassFile.FieldType)) ∈ lw_all := lw_g (lw_at lw_m7 1 rfl) rfl
theorem q1541 : (Jvm.Cond.methodLinkNest "RelicHouse$Next" (1 : Nat) ({ cls := "RelicHouse$Act", name := "<init>", desc := "()V" } : Jvm.MethodName) "RelicHouse") ∈ lw_tbl := lw_at lw_m7 2 rfl
theorem q1542 : (Jvm.Cond.superclass "RelicHouse$Next" "RelicHouse$Act") ∈ lw_all := lw_g (lw_at lw_m7 3 rfl) rfl
theorem q1632 : (Jvm.Cond.selects "RelicHouse$Next" ({ cls := "RelicHouse$Act", name := "isDone", desc := "(LRelicHouse$House;)Z" } : Jvm.MethodName) ({ cls := "RelicHouse$Next", name := "isDone", desc := "(LRelicHouse$House;)Z" } : Jvm.MethodName)) ∈ lw_all := lw_g (lw_at lw_m7 93 rfl) rfl
theorem q1633 : (Jvm.Cond.instanceMethod ({ cls := "RelicHouse$Next", name := "isDone", desc := "(LRelicHouse$House;)Z" } : Jvm.MethodName)) ∈ lw_all := lw_g (lw_at lw_m7 94 rfl) rfl
theorem q1634 : (Jvm.Cond.code ({ cls := "RelicHouse$Next", name := "isDone", desc := "(LRelicHouse$House;)Z" } : Jvm.MethodName) prog_18_method_2_code (2 : Nat) (Option.some Jvm.ClassFile.FieldType.boolean)) ∈ lw_all := lw_g (lw_at lw_m7 95 rfl) rfl
theorem q1635 : (Jvm.Cond.methodLink "RelicHouse$Next" (7 : Nat) ({ cls := "RelicHouse$House", name := "day", desc := "()Z" } : Jvm.MethodName)) ∈ lw_all := lw_g (lw_at lw_m7 96 rfl) rfl
theorem q1648 : (Jvm.Cond.selects "RelicHouse$Next" ({ cls := "RelicHouse$Step", name := "goes", desc := "(LRelicHouse$House;)V" } : Jvm.MethodName) ({ cls := "RelicHouse$Act", name := "goes", desc := "(LRelicHouse$House;)V" } : Jvm.MethodName)) ∈ lw_all := lw_g (lw_at lw_m7 109 rfl) rfl
theorem q2605 : (Jvm.Cond.castable "RelicHouse$Next" "RelicHouse$Step") ∈ lw_tbl := lw_at lw_m11 106 rfl
theorem q2635 : (Jvm.Cond.castable "RelicHouse$Next" "java/lang/Object") ∈ lw_tbl := lw_at lw_m11 136 rfl
/-! RelicHouse$Again -/
def RX31 : String := "RelicHouse$Again"
def TX31 : u_T := fun k => match k with
  | 0 => ("RelicHouse$Again", "times", "I", true)
  | _ => ("RelicHouse$Again", "steps", "Ljava/util/ArrayList;", true)
def tyX31 : Nat → FieldType := fun k => match k with
  | 0 => .int
  | _ => .object "java/util/ArrayList"
abbrev wsX310 : List Cond := u_ws RX31 TX31 2
theorem nmX31 : ∀ a, a < 2 → ∀ b, b < 2 → a ≠ b → (TX31 a).2.1 ≠ (TX31 b).2.1 := by decide +kernel
theorem tyX31_ok : ∀ k, k < 2 → parseFieldDescriptor (TX31 k).2.2.1 = some (tyX31 k) := by decide +kernel
abbrev cX31_init : ByteArray := prog_3_method_1_code
def yX31_init : MethodName := ⟨RX31, "<init>", "(I)V"⟩
abbrev cX31_goes : ByteArray := prog_3_method_2_code
def yX31_goes : MethodName := ⟨RX31, "goes", "(LRelicHouse$House;)V"⟩
theorem q149 : (Jvm.Cond.initialized "RelicHouse$Again") ∈ lw_all := lw_g (lw_at lw_m1 50 rfl) rfl
theorem q621 : (Jvm.Cond.fieldLinkNest "RelicHouse$Again" (28 : Nat) "RelicHouse$House" "steps" "I" "RelicHouse") ∈ lw_tbl := lw_at lw_m3 42 rfl
theorem q1224 : (Jvm.Cond.selects "RelicHouse$Again" ({ cls := "java/lang/Object", name := "getClass", desc := "()Ljava/lang/Class;" } : Jvm.MethodName) ({ cls := "java/lang/Object", name := "getClass", desc := "()Ljava/lang/Class;" } : Jvm.MethodName)) ∈ lw_all := lw_g (lw_at lw_m5 165 rfl) rfl
theorem q1551 : (Jvm.Cond.instantiable "RelicHouse$Again" (2 : Nat)) ∈ lw_all := lw_g (lw_at lw_m7 12 rfl) rfl
theorem q1553 : (Jvm.Cond.instanceMethod ({ cls := "RelicHouse$Again", name := "<init>", desc := "(I)V" } : Jvm.MethodName)) ∈ lw_all := lw_g (lw_at lw_m7 14 rfl) rfl
theorem q1554 : (Jvm.Cond.code ({ cls := "RelicHouse$Again", name := "<init>", desc := "(I)V" } : Jvm.MethodName) prog_3_method_1_code (2 : Nat) (Option.none : Option Jvm.ClassFile.FieldType)) ∈ lw_all := lw_g (lw_at lw_m7 15 rfl) rfl
theorem q1555 : (Jvm.Cond.methodLinkNest "RelicHouse$Again" (3 : Nat) ({ cls := "RelicHouse$Step", name := "<init>", desc := "()V" } : Jvm.MethodName) "RelicHouse") ∈ lw_tbl := lw_at lw_m7 16 rfl
theorem q1556 : (Jvm.Cond.classLink "RelicHouse$Again" (9 : Nat) "java/util/ArrayList") ∈ lw_all := lw_g (lw_at lw_m7 17 rfl) rfl
theorem q1557 : (Jvm.Cond.methodLink "RelicHouse$Again" (11 : Nat) ({ cls := "java/util/ArrayList", name := "<init>", desc := "(I)V" } : Jvm.MethodName)) ∈ lw_all := lw_g (lw_at lw_m7 18 rfl) rfl
theorem q1558 : (Jvm.Cond.fieldLink "RelicHouse$Again" (20 : Nat) "RelicHouse$Again" "times" "I") ∈ lw_all := lw_g (lw_at lw_m7 19 rfl) rfl
theorem q1559 : (Jvm.Cond.fieldLink "RelicHouse$Again" (14 : Nat) "RelicHouse$Again" "steps" "Ljava/util/ArrayList;") ∈ lw_all := lw_g (lw_at lw_m7 20 rfl) rfl
theorem q1561 : (Jvm.Cond.laysFinal "RelicHouse$Again" "RelicHouse$Again" "times" "I") ∈ lw_all := lw_g (lw_at lw_m7 22 rfl) rfl
theorem q1562 : (Jvm.Cond.soleField "RelicHouse$Again" "times") ∈ lw_all := lw_g (lw_at lw_m7 23 rfl) rfl
theorem q1563 : (Jvm.Cond.laysFinal "RelicHouse$Again" "RelicHouse$Again" "steps" "Ljava/util/ArrayList;") ∈ lw_all := lw_g (lw_at lw_m7 24 rfl) rfl
theorem q1564 : (Jvm.Cond.soleField "RelicHouse$Again" "steps") ∈ lw_all := lw_g (lw_at lw_m7 25 rfl) rfl
theorem q1565 : (Jvm.Cond.superclass "RelicHouse$Again" "RelicHouse$Step") ∈ lw_all := lw_g (lw_at lw_m7 26 rfl) rfl
theorem q1577 : (Jvm.Cond.selects "RelicHouse$Again" ({ cls := "RelicHouse$Step", name := "goes", desc := "(LRelicHouse$House;)V" } : Jvm.MethodName) ({ cls := "RelicHouse$Again", name := "goes", desc := "(LRelicHouse$House;)V" } : Jvm.MethodName)) ∈ lw_all := lw_g (lw_at lw_m7 38 rfl) rfl
theorem q1578 : (Jvm.Cond.instanceMethod ({ cls := "RelicHouse$Again", name := "goes", desc := "(LRelicHouse$House;)V" } : Jvm.MethodName)) ∈ lw_all := lw_g (lw_at lw_m7 39 rfl) rfl
theorem q1579 : (Jvm.Cond.code ({ cls := "RelicHouse$Again", name := "goes", desc := "(LRelicHouse$House;)V" } : Jvm.MethodName) prog_3_method_2_code (4 : Nat) (Option.none : Option Jvm.ClassFile.FieldType)) ∈ lw_all := lw_g (lw_at lw_m7 40 rfl) rfl
theorem q1580 : (Jvm.Cond.methodLink "RelicHouse$Again" (24 : Nat) ({ cls := "RelicHouse$Again", name := "may", desc := "(LRelicHouse$House;)Z" } : Jvm.MethodName)) ∈ lw_all := lw_g (lw_at lw_m7 41 rfl) rfl
theorem q1581 : (Jvm.Cond.sameMethod "RelicHouse$Again" "RelicHouse$Step" "may" "(LRelicHouse$House;)Z") ∈ lw_all := lw_g (lw_at lw_m7 42 rfl) rfl
theorem q1584 : (Jvm.Cond.methodLink "RelicHouse$Again" (32 : Nat) ({ cls := "java/util/ArrayList", name := "size", desc := "()I" } : Jvm.MethodName)) ∈ lw_all := lw_g (lw_at lw_m7 45 rfl) rfl
theorem q1585 : (Jvm.Cond.methodLink "RelicHouse$Again" (36 : Nat) ({ cls := "java/util/ArrayList", name := "get", desc := "(I)Ljava/lang/Object;" } : Jvm.MethodName)) ∈ lw_all := lw_g (lw_at lw_m7 46 rfl) rfl
theorem q1586 : (Jvm.Cond.classLink "RelicHouse$Again" (4 : Nat) "RelicHouse$Step") ∈ lw_all := lw_g (lw_at lw_m7 47 rfl) rfl
theorem q1587 : (Jvm.Cond.methodLink "RelicHouse$Again" (40 : Nat) ({ cls := "RelicHouse$Step", name := "goes", desc := "(LRelicHouse$House;)V" } : Jvm.MethodName)) ∈ lw_all := lw_g (lw_at lw_m7 48 rfl) rfl
theorem q2599 : (Jvm.Cond.castable "RelicHouse$Again" "RelicHouse$Step") ∈ lw_tbl := lw_at lw_m11 100 rfl
theorem q2636 : (Jvm.Cond.castable "RelicHouse$Again" "java/lang/Object") ∈ lw_tbl := lw_at lw_m11 137 rfl
theorem in_X31 : ∀ w ∈ wsX310, w ∈ lw_all := lw_in wsX310 [1561, 1563] (by decide +kernel) (by decide +kernel)
/-! RelicHouse$SeenReader -/
def RX32 : String := "RelicHouse$SeenReader"
def TX32 : u_T := fun k => match k with
  | 0 => ("RelicHouse$Reader", "text", "[B", true)
  | 1 => ("RelicHouse$Reader", "size", "I", true)
  | 2 => ("RelicHouse$Reader", "next", "I", false)
  | 3 => ("RelicHouse$Reader", "from", "I", false)
  | 4 => ("RelicHouse$Reader", "open", "I", false)
  | 5 => ("RelicHouse$SeenReader", "relics", "I", true)
  | 6 => ("RelicHouse$SeenReader", "read", "[I", true)
  | _ => ("RelicHouse$SeenReader", "many", "I", false)
def tyX32 : Nat → FieldType := fun k => match k with
  | 0 => .array .byte
  | 1 => .int
  | 2 => .int
  | 3 => .int
  | 4 => .int
  | 5 => .int
  | 6 => .array .int
  | _ => .int
abbrev wsX320 : List Cond := u_ws RX32 TX32 8
theorem nmX32 : ∀ a, a < 8 → ∀ b, b < 8 → a ≠ b → (TX32 a).2.1 ≠ (TX32 b).2.1 := by decide +kernel
theorem tyX32_ok : ∀ k, k < 8 → parseFieldDescriptor (TX32 k).2.2.1 = some (tyX32 k) := by decide +kernel
abbrev cX32_init : ByteArray := prog_24_method_1_code
def yX32_init : MethodName := ⟨RX32, "<init>", "([BII)V"⟩
abbrev cX32_reads : ByteArray := prog_24_method_2_code
def yX32_reads : MethodName := ⟨RX32, "reads", "()[I"⟩
theorem q151 : (Jvm.Cond.initialized "RelicHouse$SeenReader") ∈ lw_all := lw_g (lw_at lw_m1 52 rfl) rfl
theorem q970 : (Jvm.Cond.fieldLink "RelicHouse$SeenReader" (26 : Nat) "RelicHouse$SeenReader" "size" "I") ∈ lw_all := lw_g (lw_at lw_m4 151 rfl) rfl
theorem q971 : (Jvm.Cond.sameField "RelicHouse$SeenReader" "RelicHouse$Reader" "size" "I") ∈ lw_all := lw_g (lw_at lw_m4 152 rfl) rfl
theorem q979 : (Jvm.Cond.fieldLink "RelicHouse$SeenReader" (23 : Nat) "RelicHouse$SeenReader" "next" "I") ∈ lw_all := lw_g (lw_at lw_m4 160 rfl) rfl
theorem q980 : (Jvm.Cond.sameField "RelicHouse$SeenReader" "RelicHouse$Reader" "next" "I") ∈ lw_all := lw_g (lw_at lw_m4 161 rfl) rfl
theorem q981 : (Jvm.Cond.fieldLink "RelicHouse$SeenReader" (35 : Nat) "RelicHouse$SeenReader" "from" "I") ∈ lw_all := lw_g (lw_at lw_m4 162 rfl) rfl
theorem q982 : (Jvm.Cond.sameField "RelicHouse$SeenReader" "RelicHouse$Reader" "from" "I") ∈ lw_all := lw_g (lw_at lw_m4 163 rfl) rfl
theorem q1244 : (Jvm.Cond.selects "RelicHouse$SeenReader" ({ cls := "java/lang/Object", name := "getClass", desc := "()Ljava/lang/Class;" } : Jvm.MethodName) ({ cls := "java/lang/Object", name := "getClass", desc := "()Ljava/lang/Class;" } : Jvm.MethodName)) ∈ lw_all := lw_g (lw_at lw_m5 185 rfl) rfl
theorem q1657 : (Jvm.Cond.instantiable "RelicHouse$SeenReader" (8 : Nat)) ∈ lw_all := lw_g (lw_at lw_m7 118 rfl) rfl
theorem q1659 : (Jvm.Cond.instanceMethod ({ cls := "RelicHouse$SeenReader", name := "<init>", desc := "([BII)V" } : Jvm.MethodName)) ∈ lw_all := lw_g (lw_at lw_m7 120 rfl) rfl
theorem q1660 : (Jvm.Cond.code ({ cls := "RelicHouse$SeenReader", name := "<init>", desc := "([BII)V" } : Jvm.MethodName) prog_24_method_1_code (4 : Nat) (Option.none : Option Jvm.ClassFile.FieldType)) ∈ lw_all := lw_g (lw_at lw_m7 121 rfl) rfl
theorem q1661 : (Jvm.Cond.methodLink "RelicHouse$SeenReader" (3 : Nat) ({ cls := "RelicHouse$Reader", name := "<init>", desc := "([BI)V" } : Jvm.MethodName)) ∈ lw_all := lw_g (lw_at lw_m7 122 rfl) rfl
theorem q1662 : (Jvm.Cond.fieldLink "RelicHouse$SeenReader" (15 : Nat) "RelicHouse$SeenReader" "relics" "I") ∈ lw_all := lw_g (lw_at lw_m7 123 rfl) rfl
theorem q1663 : (Jvm.Cond.fieldLink "RelicHouse$SeenReader" (9 : Nat) "RelicHouse$SeenReader" "read" "[I") ∈ lw_all := lw_g (lw_at lw_m7 124 rfl) rfl
theorem q1664 : (Jvm.Cond.fieldLink "RelicHouse$SeenReader" (45 : Nat) "RelicHouse$SeenReader" "many" "I") ∈ lw_all := lw_g (lw_at lw_m7 125 rfl) rfl
theorem q1666 : (Jvm.Cond.laysFinal "RelicHouse$SeenReader" "RelicHouse$SeenReader" "relics" "I") ∈ lw_all := lw_g (lw_at lw_m7 127 rfl) rfl
theorem q1667 : (Jvm.Cond.soleField "RelicHouse$SeenReader" "relics") ∈ lw_all := lw_g (lw_at lw_m7 128 rfl) rfl
theorem q1668 : (Jvm.Cond.laysFinal "RelicHouse$SeenReader" "RelicHouse$SeenReader" "read" "[I") ∈ lw_all := lw_g (lw_at lw_m7 129 rfl) rfl
theorem q1669 : (Jvm.Cond.soleField "RelicHouse$SeenReader" "read") ∈ lw_all := lw_g (lw_at lw_m7 130 rfl) rfl
theorem q1670 : (Jvm.Cond.lays "RelicHouse$SeenReader" "RelicHouse$SeenReader" "many" "I") ∈ lw_all := lw_g (lw_at lw_m7 131 rfl) rfl
theorem q1671 : (Jvm.Cond.soleField "RelicHouse$SeenReader" "many") ∈ lw_all := lw_g (lw_at lw_m7 132 rfl) rfl
theorem q1672 : (Jvm.Cond.laysFinal "RelicHouse$SeenReader" "RelicHouse$Reader" "text" "[B") ∈ lw_all := lw_g (lw_at lw_m7 133 rfl) rfl
theorem q1673 : (Jvm.Cond.laysFinal "RelicHouse$SeenReader" "RelicHouse$Reader" "size" "I") ∈ lw_all := lw_g (lw_at lw_m7 134 rfl) rfl
theorem q1674 : (Jvm.Cond.lays "RelicHouse$SeenReader" "RelicHouse$Reader" "next" "I") ∈ lw_all := lw_g (lw_at lw_m7 135 rfl) rfl
theorem q1675 : (Jvm.Cond.lays "RelicHouse$SeenReader" "RelicHouse$Reader" "from" "I") ∈ lw_all := lw_g (lw_at lw_m7 136 rfl) rfl
theorem q1676 : (Jvm.Cond.lays "RelicHouse$SeenReader" "RelicHouse$Reader" "open" "I") ∈ lw_all := lw_g (lw_at lw_m7 137 rfl) rfl
theorem q1677 : (Jvm.Cond.superclass "RelicHouse$SeenReader" "RelicHouse$Reader") ∈ lw_all := lw_g (lw_at lw_m7 138 rfl) rfl
theorem q1679 : (Jvm.Cond.instanceMethod ({ cls := "RelicHouse$SeenReader", name := "reads", desc := "()[I" } : Jvm.MethodName)) ∈ lw_all := lw_g (lw_at lw_m7 140 rfl) rfl
theorem q1680 : (Jvm.Cond.selects "RelicHouse$SeenReader" ({ cls := "RelicHouse$SeenReader", name := "reads", desc := "()[I" } : Jvm.MethodName) ({ cls := "RelicHouse$SeenReader", name := "reads", desc := "()[I" } : Jvm.MethodName)) ∈ lw_all := lw_g (lw_at lw_m7 141 rfl) rfl
theorem q1681 : (Jvm.Cond.code ({ cls := "RelicHouse$SeenReader", name := "reads", desc := "()[I" } : Jvm.MethodName) prog_24_method_2_code (2 : Nat) (Option.some (Jvm.ClassFile.FieldType.array Jvm.ClassFile.FieldType.int))) ∈ lw_all := lw_g (lw_at lw_m7 142 rfl) rfl
theorem q1682 : (Jvm.Cond.methodLink "RelicHouse$SeenReader" (19 : Nat) ({ cls := "RelicHouse$SeenReader", name := "sign", desc := "()I" } : Jvm.MethodName)) ∈ lw_all := lw_g (lw_at lw_m7 143 rfl) rfl
theorem q1683 : (Jvm.Cond.sameMethod "RelicHouse$SeenReader" "RelicHouse$Reader" "sign" "()I") ∈ lw_all := lw_g (lw_at lw_m7 144 rfl) rfl
theorem q1684 : (Jvm.Cond.selects "RelicHouse$SeenReader" ({ cls := "RelicHouse$SeenReader", name := "sign", desc := "()I" } : Jvm.MethodName) ({ cls := "RelicHouse$Reader", name := "sign", desc := "()I" } : Jvm.MethodName)) ∈ lw_all := lw_g (lw_at lw_m7 145 rfl) rfl
theorem q1685 : (Jvm.Cond.methodLink "RelicHouse$SeenReader" (29 : Nat) ({ cls := "RelicHouse$SeenReader", name := "number", desc := "(II)I" } : Jvm.MethodName)) ∈ lw_all := lw_g (lw_at lw_m7 146 rfl) rfl
theorem q1686 : (Jvm.Cond.sameMethod "RelicHouse$SeenReader" "RelicHouse$Reader" "number" "(II)I") ∈ lw_all := lw_g (lw_at lw_m7 147 rfl) rfl
theorem q1687 : (Jvm.Cond.selects "RelicHouse$SeenReader" ({ cls := "RelicHouse$SeenReader", name := "number", desc := "(II)I" } : Jvm.MethodName) ({ cls := "RelicHouse$Reader", name := "number", desc := "(II)I" } : Jvm.MethodName)) ∈ lw_all := lw_g (lw_at lw_m7 148 rfl) rfl
theorem q1688 : (Jvm.Cond.classLink "RelicHouse$SeenReader" (33 : Nat) "RelicHouse$Wrong") ∈ lw_all := lw_g (lw_at lw_m7 149 rfl) rfl
theorem q1689 : (Jvm.Cond.methodLink "RelicHouse$SeenReader" (38 : Nat) ({ cls := "RelicHouse$Wrong", name := "<init>", desc := "(II)V" } : Jvm.MethodName)) ∈ lw_all := lw_g (lw_at lw_m7 150 rfl) rfl
theorem q1690 : (Jvm.Cond.methodLink "RelicHouse$SeenReader" (41 : Nat) ({ cls := "RelicHouse$SeenReader", name := "need", desc := "(I)V" } : Jvm.MethodName)) ∈ lw_all := lw_g (lw_at lw_m7 151 rfl) rfl
theorem q1691 : (Jvm.Cond.sameMethod "RelicHouse$SeenReader" "RelicHouse$Reader" "need" "(I)V") ∈ lw_all := lw_g (lw_at lw_m7 152 rfl) rfl
theorem q1692 : (Jvm.Cond.selects "RelicHouse$SeenReader" ({ cls := "RelicHouse$SeenReader", name := "need", desc := "(I)V" } : Jvm.MethodName) ({ cls := "RelicHouse$Reader", name := "need", desc := "(I)V" } : Jvm.MethodName)) ∈ lw_all := lw_g (lw_at lw_m7 153 rfl) rfl
theorem q2589 : (Jvm.Cond.selects "RelicHouse$SeenReader" ({ cls := "RelicHouse$Reader", name := "sign", desc := "()I" } : Jvm.MethodName) ({ cls := "RelicHouse$Reader", name := "sign", desc := "()I" } : Jvm.MethodName)) ∈ lw_all := lw_g (lw_at lw_m11 90 rfl) rfl
theorem q2596 : (Jvm.Cond.selects "RelicHouse$SeenReader" ({ cls := "RelicHouse$Reader", name := "wrong", desc := "()LRelicHouse$Wrong;" } : Jvm.MethodName) ({ cls := "RelicHouse$Reader", name := "wrong", desc := "()LRelicHouse$Wrong;" } : Jvm.MethodName)) ∈ lw_all := lw_g (lw_at lw_m11 97 rfl) rfl
theorem q2637 : (Jvm.Cond.castable "RelicHouse$SeenReader" "java/lang/Object") ∈ lw_tbl := lw_at lw_m11 138 rfl
theorem in_X32 : ∀ w ∈ wsX320, w ∈ lw_all := lw_in wsX320 [1672, 1673, 1674, 1675, 1676, 1666, 1668, 1670] (by decide +kernel) (by decide +kernel)
/-! java/util/AbstractCollection -/
def RJ0 : String := "java/util/AbstractCollection"
abbrev cJ0_init : ByteArray := prog_56_method_1_code
def yJ0_init : MethodName := ⟨RJ0, "<init>", "()V"⟩
theorem q102 : (Jvm.Cond.initialized "java/util/AbstractCollection") ∈ lw_all := lw_g (lw_at lw_m1 3 rfl) rfl
theorem q176 : (Jvm.Cond.instanceMethod ({ cls := "java/util/AbstractCollection", name := "<init>", desc := "()V" } : Jvm.MethodName)) ∈ lw_all := lw_g (lw_at lw_m1 77 rfl) rfl
theorem q177 : (Jvm.Cond.code ({ cls := "java/util/AbstractCollection", name := "<init>", desc := "()V" } : Jvm.MethodName) prog_56_method_1_code (1 : Nat) (Option.none : Option Jvm.ClassFile.FieldType)) ∈ lw_all := lw_g (lw_at lw_m1 78 rfl) rfl
theorem q178 : (Jvm.Cond.methodLink "java/util/AbstractCollection" (1 : Nat) ({ cls := "java/lang/Object", name := "<init>", desc := "()V" } : Jvm.MethodName)) ∈ lw_all := lw_g (lw_at lw_m1 79 rfl) rfl
/-! java/util/AbstractList -/
def RJ1 : String := "java/util/AbstractList"
abbrev cJ1_init : ByteArray := prog_57_method_1_code
def yJ1_init : MethodName := ⟨RJ1, "<init>", "()V"⟩
theorem q103 : (Jvm.Cond.initialized "java/util/AbstractList") ∈ lw_all := lw_g (lw_at lw_m1 4 rfl) rfl
theorem q173 : (Jvm.Cond.instanceMethod ({ cls := "java/util/AbstractList", name := "<init>", desc := "()V" } : Jvm.MethodName)) ∈ lw_all := lw_g (lw_at lw_m1 74 rfl) rfl
theorem q174 : (Jvm.Cond.code ({ cls := "java/util/AbstractList", name := "<init>", desc := "()V" } : Jvm.MethodName) prog_57_method_1_code (1 : Nat) (Option.none : Option Jvm.ClassFile.FieldType)) ∈ lw_all := lw_g (lw_at lw_m1 75 rfl) rfl
theorem q175 : (Jvm.Cond.methodLink "java/util/AbstractList" (1 : Nat) ({ cls := "java/util/AbstractCollection", name := "<init>", desc := "()V" } : Jvm.MethodName)) ∈ lw_all := lw_g (lw_at lw_m1 76 rfl) rfl
theorem q500 : (Jvm.Cond.fieldLink "java/util/AbstractList" (7 : Nat) "java/util/AbstractList" "modCount" "I") ∈ lw_all := lw_g (lw_at lw_m2 161 rfl) rfl
theorem q508 : (Jvm.Cond.soleField "java/util/AbstractList" "modCount") ∈ lw_all := lw_g (lw_at lw_m2 169 rfl) rfl
/-! java/util/ArrayList -/
def RJ2 : String := "java/util/ArrayList"
def TJ2 : u_T := fun k => match k with
  | 0 => ("java/util/AbstractList", "modCount", "I", false)
  | 1 => ("java/util/ArrayList", "elementData", "[Ljava/lang/Object;", false)
  | _ => ("java/util/ArrayList", "size", "I", false)
def tyJ2 : Nat → FieldType := fun k => match k with
  | 0 => .int
  | 1 => .array (.object "java/lang/Object")
  | _ => .int
abbrev wsJ20 : List Cond := u_ws RJ2 TJ2 3
theorem nmJ2 : ∀ a, a < 3 → ∀ b, b < 3 → a ≠ b → (TJ2 a).2.1 ≠ (TJ2 b).2.1 := by decide +kernel
theorem tyJ2_ok : ∀ k, k < 3 → parseFieldDescriptor (TJ2 k).2.2.1 = some (tyJ2 k) := by decide +kernel
abbrev cJ2_init : ByteArray := prog_58_method_1_code
def yJ2_init : MethodName := ⟨RJ2, "<init>", "(I)V"⟩
abbrev cJ2_size : ByteArray := prog_58_method_8_code
def yJ2_size : MethodName := ⟨RJ2, "size", "()I"⟩
abbrev cJ2_get : ByteArray := prog_58_method_20_code
def yJ2_get : MethodName := ⟨RJ2, "get", "(I)Ljava/lang/Object;"⟩
abbrev cJ2_elementData : ByteArray := prog_58_method_18_code
def yJ2_elementData : MethodName := ⟨RJ2, "elementData", "(I)Ljava/lang/Object;"⟩
abbrev cJ2_add : ByteArray := prog_58_method_25_code
def yJ2_add : MethodName := ⟨RJ2, "add", "(Ljava/lang/Object;)Z"⟩
abbrev cJ2_add_2 : ByteArray := prog_58_method_24_code
def yJ2_add_2 : MethodName := ⟨RJ2, "add", "(Ljava/lang/Object;[Ljava/lang/Object;I)V"⟩
abbrev cJ2_grow : ByteArray := prog_58_method_7_code
def yJ2_grow : MethodName := ⟨RJ2, "grow", "()[Ljava/lang/Object;"⟩
abbrev cJ2_grow_2 : ByteArray := prog_58_method_6_code
def yJ2_grow_2 : MethodName := ⟨RJ2, "grow", "(I)[Ljava/lang/Object;"⟩
theorem q104 : (Jvm.Cond.initialized "java/util/ArrayList") ∈ lw_all := lw_g (lw_at lw_m1 5 rfl) rfl
theorem q168 : (Jvm.Cond.instantiable "java/util/ArrayList" (3 : Nat)) ∈ lw_all := lw_g (lw_at lw_m1 69 rfl) rfl
theorem q170 : (Jvm.Cond.instanceMethod ({ cls := "java/util/ArrayList", name := "<init>", desc := "(I)V" } : Jvm.MethodName)) ∈ lw_all := lw_g (lw_at lw_m1 71 rfl) rfl
theorem q171 : (Jvm.Cond.code ({ cls := "java/util/ArrayList", name := "<init>", desc := "(I)V" } : Jvm.MethodName) prog_58_method_1_code (2 : Nat) (Option.none : Option Jvm.ClassFile.FieldType)) ∈ lw_all := lw_g (lw_at lw_m1 72 rfl) rfl
theorem q172 : (Jvm.Cond.methodLink "java/util/ArrayList" (1 : Nat) ({ cls := "java/util/AbstractList", name := "<init>", desc := "()V" } : Jvm.MethodName)) ∈ lw_all := lw_g (lw_at lw_m1 73 rfl) rfl
theorem q179 : (Jvm.Cond.classLink "java/util/ArrayList" (7 : Nat) "java/lang/Object") ∈ lw_all := lw_g (lw_at lw_m1 80 rfl) rfl
theorem q181 : (Jvm.Cond.fieldLink "java/util/ArrayList" (15 : Nat) "java/util/ArrayList" "EMPTY_ELEMENTDATA" "[Ljava/lang/Object;") ∈ lw_all := lw_g (lw_at lw_m1 82 rfl) rfl
theorem q182 : (Jvm.Cond.laysStatic "java/util/ArrayList" "EMPTY_ELEMENTDATA" "[Ljava/lang/Object;") ∈ lw_tbl := lw_at lw_m1 83 rfl
theorem q183 : (Jvm.Cond.classLink "java/util/ArrayList" (18 : Nat) "java/lang/IllegalArgumentException") ∈ lw_all := lw_g (lw_at lw_m1 84 rfl) rfl
theorem q224 : (Jvm.Cond.classLink "java/util/ArrayList" (20 : Nat) "java/lang/StringBuilder") ∈ lw_all := lw_g (lw_at lw_m1 125 rfl) rfl
theorem q226 : (Jvm.Cond.methodLink "java/util/ArrayList" (22 : Nat) ({ cls := "java/lang/StringBuilder", name := "<init>", desc := "()V" } : Jvm.MethodName)) ∈ lw_all := lw_g (lw_at lw_m1 127 rfl) rfl
theorem q257 : (Jvm.Cond.stringRef "java/util/ArrayList" (23 : Nat) "Illegal Capacity: ") ∈ lw_tbl := lw_at lw_m1 158 rfl
theorem q258 : (Jvm.Cond.methodLink "java/util/ArrayList" (25 : Nat) ({ cls := "java/lang/StringBuilder", name := "append", desc := "(Ljava/lang/String;)Ljava/lang/StringBuilder;" } : Jvm.MethodName)) ∈ lw_all := lw_g (lw_at lw_m1 159 rfl) rfl
theorem q378 : (Jvm.Cond.methodLink "java/util/ArrayList" (29 : Nat) ({ cls := "java/lang/StringBuilder", name := "append", desc := "(I)Ljava/lang/StringBuilder;" } : Jvm.MethodName)) ∈ lw_all := lw_g (lw_at lw_m2 39 rfl) rfl
theorem q403 : (Jvm.Cond.methodLink "java/util/ArrayList" (32 : Nat) ({ cls := "java/lang/StringBuilder", name := "toString", desc := "()Ljava/lang/String;" } : Jvm.MethodName)) ∈ lw_all := lw_g (lw_at lw_m2 64 rfl) rfl
theorem q497 : (Jvm.Cond.methodLink "java/util/ArrayList" (36 : Nat) ({ cls := "java/lang/IllegalArgumentException", name := "<init>", desc := "(Ljava/lang/String;)V" } : Jvm.MethodName)) ∈ lw_all := lw_g (lw_at lw_m2 158 rfl) rfl
theorem q498 : (Jvm.Cond.fieldLink "java/util/ArrayList" (9 : Nat) "java/util/ArrayList" "elementData" "[Ljava/lang/Object;") ∈ lw_all := lw_g (lw_at lw_m2 159 rfl) rfl
theorem q499 : (Jvm.Cond.fieldLink "java/util/ArrayList" (48 : Nat) "java/util/ArrayList" "size" "I") ∈ lw_all := lw_g (lw_at lw_m2 160 rfl) rfl
theorem q501 : (Jvm.Cond.fieldLink "java/util/ArrayList" (63 : Nat) "java/util/ArrayList" "modCount" "I") ∈ lw_all := lw_g (lw_at lw_m2 162 rfl) rfl
theorem q502 : (Jvm.Cond.sameField "java/util/ArrayList" "java/util/AbstractList" "modCount" "I") ∈ lw_all := lw_g (lw_at lw_m2 163 rfl) rfl
theorem q503 : (Jvm.Cond.lays "java/util/ArrayList" "java/util/ArrayList" "elementData" "[Ljava/lang/Object;") ∈ lw_all := lw_g (lw_at lw_m2 164 rfl) rfl
theorem q504 : (Jvm.Cond.soleField "java/util/ArrayList" "elementData") ∈ lw_all := lw_g (lw_at lw_m2 165 rfl) rfl
theorem q505 : (Jvm.Cond.lays "java/util/ArrayList" "java/util/ArrayList" "size" "I") ∈ lw_all := lw_g (lw_at lw_m2 166 rfl) rfl
theorem q506 : (Jvm.Cond.soleField "java/util/ArrayList" "size") ∈ lw_all := lw_g (lw_at lw_m2 167 rfl) rfl
theorem q507 : (Jvm.Cond.lays "java/util/ArrayList" "java/util/AbstractList" "modCount" "I") ∈ lw_all := lw_g (lw_at lw_m2 168 rfl) rfl
theorem q509 : (Jvm.Cond.superclass "java/util/ArrayList" "java/util/AbstractList") ∈ lw_all := lw_g (lw_at lw_m2 170 rfl) rfl
theorem q766 : (Jvm.Cond.instanceMethod ({ cls := "java/util/ArrayList", name := "size", desc := "()I" } : Jvm.MethodName)) ∈ lw_all := lw_g (lw_at lw_m3 187 rfl) rfl
theorem q767 : (Jvm.Cond.selects "java/util/ArrayList" ({ cls := "java/util/ArrayList", name := "size", desc := "()I" } : Jvm.MethodName) ({ cls := "java/util/ArrayList", name := "size", desc := "()I" } : Jvm.MethodName)) ∈ lw_all := lw_g (lw_at lw_m3 188 rfl) rfl
theorem q768 : (Jvm.Cond.code ({ cls := "java/util/ArrayList", name := "size", desc := "()I" } : Jvm.MethodName) prog_58_method_8_code (1 : Nat) (Option.some Jvm.ClassFile.FieldType.int)) ∈ lw_all := lw_g (lw_at lw_m3 189 rfl) rfl
theorem q774 : (Jvm.Cond.instanceMethod ({ cls := "java/util/ArrayList", name := "get", desc := "(I)Ljava/lang/Object;" } : Jvm.MethodName)) ∈ lw_all := lw_g (lw_at lw_m3 195 rfl) rfl
theorem q775 : (Jvm.Cond.selects "java/util/ArrayList" ({ cls := "java/util/ArrayList", name := "get", desc := "(I)Ljava/lang/Object;" } : Jvm.MethodName) ({ cls := "java/util/ArrayList", name := "get", desc := "(I)Ljava/lang/Object;" } : Jvm.MethodName)) ∈ lw_all := lw_g (lw_at lw_m3 196 rfl) rfl
theorem q776 : (Jvm.Cond.code ({ cls := "java/util/ArrayList", name := "get", desc := "(I)Ljava/lang/Object;" } : Jvm.MethodName) prog_58_method_20_code (2 : Nat) (Option.some (Jvm.ClassFile.FieldType.object "java/lang/Object"))) ∈ lw_all := lw_g (lw_at lw_m3 197 rfl) rfl
theorem q777 : (Jvm.Cond.methodLink "java/util/ArrayList" (118 : Nat) ({ cls := "java/util/Objects", name := "checkIndex", desc := "(II)I" } : Jvm.MethodName)) ∈ lw_all := lw_g (lw_at lw_m3 198 rfl) rfl
theorem q783 : (Jvm.Cond.methodLink "java/util/ArrayList" (123 : Nat) ({ cls := "java/util/ArrayList", name := "elementData", desc := "(I)Ljava/lang/Object;" } : Jvm.MethodName)) ∈ lw_all := lw_g (lw_at lw_m3 204 rfl) rfl
theorem q784 : (Jvm.Cond.instanceMethod ({ cls := "java/util/ArrayList", name := "elementData", desc := "(I)Ljava/lang/Object;" } : Jvm.MethodName)) ∈ lw_all := lw_g (lw_at lw_m3 205 rfl) rfl
theorem q785 : (Jvm.Cond.selects "java/util/ArrayList" ({ cls := "java/util/ArrayList", name := "elementData", desc := "(I)Ljava/lang/Object;" } : Jvm.MethodName) ({ cls := "java/util/ArrayList", name := "elementData", desc := "(I)Ljava/lang/Object;" } : Jvm.MethodName)) ∈ lw_all := lw_g (lw_at lw_m3 206 rfl) rfl
theorem q786 : (Jvm.Cond.code ({ cls := "java/util/ArrayList", name := "elementData", desc := "(I)Ljava/lang/Object;" } : Jvm.MethodName) prog_58_method_18_code (2 : Nat) (Option.some (Jvm.ClassFile.FieldType.object "java/lang/Object"))) ∈ lw_all := lw_g (lw_at lw_m3 207 rfl) rfl
theorem q1199 : (Jvm.Cond.instanceMethod ({ cls := "java/util/ArrayList", name := "add", desc := "(Ljava/lang/Object;)Z" } : Jvm.MethodName)) ∈ lw_all := lw_g (lw_at lw_m5 140 rfl) rfl
theorem q1200 : (Jvm.Cond.selects "java/util/ArrayList" ({ cls := "java/util/ArrayList", name := "add", desc := "(Ljava/lang/Object;)Z" } : Jvm.MethodName) ({ cls := "java/util/ArrayList", name := "add", desc := "(Ljava/lang/Object;)Z" } : Jvm.MethodName)) ∈ lw_all := lw_g (lw_at lw_m5 141 rfl) rfl
theorem q1201 : (Jvm.Cond.code ({ cls := "java/util/ArrayList", name := "add", desc := "(Ljava/lang/Object;)Z" } : Jvm.MethodName) prog_58_method_25_code (2 : Nat) (Option.some Jvm.ClassFile.FieldType.boolean)) ∈ lw_all := lw_g (lw_at lw_m5 142 rfl) rfl
theorem q1202 : (Jvm.Cond.methodLink "java/util/ArrayList" (131 : Nat) ({ cls := "java/util/ArrayList", name := "add", desc := "(Ljava/lang/Object;[Ljava/lang/Object;I)V" } : Jvm.MethodName)) ∈ lw_all := lw_g (lw_at lw_m5 143 rfl) rfl
theorem q1203 : (Jvm.Cond.privateMethod ({ cls := "java/util/ArrayList", name := "add", desc := "(Ljava/lang/Object;[Ljava/lang/Object;I)V" } : Jvm.MethodName)) ∈ lw_tbl := lw_at lw_m5 144 rfl
theorem q1204 : (Jvm.Cond.instanceMethod ({ cls := "java/util/ArrayList", name := "add", desc := "(Ljava/lang/Object;[Ljava/lang/Object;I)V" } : Jvm.MethodName)) ∈ lw_all := lw_g (lw_at lw_m5 145 rfl) rfl
theorem q1205 : (Jvm.Cond.code ({ cls := "java/util/ArrayList", name := "add", desc := "(Ljava/lang/Object;[Ljava/lang/Object;I)V" } : Jvm.MethodName) prog_58_method_24_code (4 : Nat) (Option.none : Option Jvm.ClassFile.FieldType)) ∈ lw_all := lw_g (lw_at lw_m5 146 rfl) rfl
theorem q1206 : (Jvm.Cond.methodLink "java/util/ArrayList" (129 : Nat) ({ cls := "java/util/ArrayList", name := "grow", desc := "()[Ljava/lang/Object;" } : Jvm.MethodName)) ∈ lw_all := lw_g (lw_at lw_m5 147 rfl) rfl
theorem q1207 : (Jvm.Cond.privateMethod ({ cls := "java/util/ArrayList", name := "grow", desc := "()[Ljava/lang/Object;" } : Jvm.MethodName)) ∈ lw_tbl := lw_at lw_m5 148 rfl
theorem q1208 : (Jvm.Cond.instanceMethod ({ cls := "java/util/ArrayList", name := "grow", desc := "()[Ljava/lang/Object;" } : Jvm.MethodName)) ∈ lw_all := lw_g (lw_at lw_m5 149 rfl) rfl
theorem q1209 : (Jvm.Cond.code ({ cls := "java/util/ArrayList", name := "grow", desc := "()[Ljava/lang/Object;" } : Jvm.MethodName) prog_58_method_7_code (1 : Nat) (Option.some (Jvm.ClassFile.FieldType.array (Jvm.ClassFile.FieldType.object "java/lang/Object")))) ∈ lw_all := lw_g (lw_at lw_m5 150 rfl) rfl
theorem q1210 : (Jvm.Cond.methodLink "java/util/ArrayList" (69 : Nat) ({ cls := "java/util/ArrayList", name := "grow", desc := "(I)[Ljava/lang/Object;" } : Jvm.MethodName)) ∈ lw_all := lw_g (lw_at lw_m5 151 rfl) rfl
theorem q1211 : (Jvm.Cond.privateMethod ({ cls := "java/util/ArrayList", name := "grow", desc := "(I)[Ljava/lang/Object;" } : Jvm.MethodName)) ∈ lw_tbl := lw_at lw_m5 152 rfl
theorem q1212 : (Jvm.Cond.instanceMethod ({ cls := "java/util/ArrayList", name := "grow", desc := "(I)[Ljava/lang/Object;" } : Jvm.MethodName)) ∈ lw_all := lw_g (lw_at lw_m5 153 rfl) rfl
theorem q1213 : (Jvm.Cond.code ({ cls := "java/util/ArrayList", name := "grow", desc := "(I)[Ljava/lang/Object;" } : Jvm.MethodName) prog_58_method_6_code (4 : Nat) (Option.some (Jvm.ClassFile.FieldType.array (Jvm.ClassFile.FieldType.object "java/lang/Object")))) ∈ lw_all := lw_g (lw_at lw_m5 154 rfl) rfl
theorem q1214 : (Jvm.Cond.fieldLink "java/util/ArrayList" (39 : Nat) "java/util/ArrayList" "DEFAULTCAPACITY_EMPTY_ELEMENTDATA" "[Ljava/lang/Object;") ∈ lw_all := lw_g (lw_at lw_m5 155 rfl) rfl
theorem q1215 : (Jvm.Cond.laysStatic "java/util/ArrayList" "DEFAULTCAPACITY_EMPTY_ELEMENTDATA" "[Ljava/lang/Object;") ∈ lw_tbl := lw_at lw_m5 156 rfl
theorem q1216 : (Jvm.Cond.methodLink "java/util/ArrayList" (73 : Nat) ({ cls := "jdk/internal/util/ArraysSupport", name := "newLength", desc := "(III)I" } : Jvm.MethodName)) ∈ lw_all := lw_g (lw_at lw_m5 157 rfl) rfl
theorem q1217 : (Jvm.Cond.methodLink "java/util/ArrayList" (66 : Nat) ({ cls := "java/util/Arrays", name := "copyOf", desc := "([Ljava/lang/Object;I)[Ljava/lang/Object;" } : Jvm.MethodName)) ∈ lw_all := lw_g (lw_at lw_m5 158 rfl) rfl
theorem q1254 : (Jvm.Cond.selects "java/util/ArrayList" ({ cls := "java/lang/Object", name := "getClass", desc := "()Ljava/lang/Class;" } : Jvm.MethodName) ({ cls := "java/lang/Object", name := "getClass", desc := "()Ljava/lang/Class;" } : Jvm.MethodName)) ∈ lw_all := lw_g (lw_at lw_m5 195 rfl) rfl
theorem q1262 : (Jvm.Cond.methodLink "java/util/ArrayList" (79 : Nat) ({ cls := "java/lang/Math", name := "max", desc := "(II)I" } : Jvm.MethodName)) ∈ lw_all := lw_g (lw_at lw_m5 203 rfl) rfl
theorem q2609 : (Jvm.Cond.castable "java/util/ArrayList" "java/lang/Object") ∈ lw_tbl := lw_at lw_m11 110 rfl
theorem in_J2 : ∀ w ∈ wsJ20, w ∈ lw_all := lw_in wsJ20 [507, 503, 505] (by decide +kernel) (by decide +kernel)
/-! java/lang/Throwable -/
def RJ3 : String := "java/lang/Throwable"
def TJ3 : u_T := fun k => match k with
  | 0 => ("java/lang/Throwable", "cause", "Ljava/lang/Throwable;", false)
  | 1 => ("java/lang/Throwable", "stackTrace", "[Ljava/lang/StackTraceElement;", false)
  | 2 => ("java/lang/Throwable", "suppressedExceptions", "Ljava/util/List;", false)
  | 3 => ("java/lang/Throwable", "detailMessage", "Ljava/lang/String;", false)
  | _ => ("java/lang/Throwable", "backtrace", "Ljava/lang/Object;", false)
def tyJ3 : Nat → FieldType := fun k => match k with
  | 0 => .object "java/lang/Throwable"
  | 1 => .array (.object "java/lang/StackTraceElement")
  | 2 => .object "java/util/List"
  | 3 => .object "java/lang/String"
  | _ => .object "java/lang/Object"
abbrev wsJ30 : List Cond := u_ws RJ3 TJ3 5
theorem nmJ3 : ∀ a, a < 5 → ∀ b, b < 5 → a ≠ b → (TJ3 a).2.1 ≠ (TJ3 b).2.1 := by decide +kernel
theorem tyJ3_ok : ∀ k, k < 5 → parseFieldDescriptor (TJ3 k).2.2.1 = some (tyJ3 k) := by decide +kernel
abbrev cJ3_init : ByteArray := prog_53_method_1_code
def yJ3_init : MethodName := ⟨RJ3, "<init>", "()V"⟩
abbrev cJ3_init_2 : ByteArray := prog_53_method_2_code
def yJ3_init_2 : MethodName := ⟨RJ3, "<init>", "(Ljava/lang/String;)V"⟩
abbrev cJ3_init_3 : ByteArray := prog_53_method_5_code
def yJ3_init_3 : MethodName := ⟨RJ3, "<init>", "(Ljava/lang/String;Ljava/lang/Throwable;ZZ)V"⟩
theorem q105 : (Jvm.Cond.initialized "java/lang/Throwable") ∈ lw_all := lw_g (lw_at lw_m1 6 rfl) rfl
theorem q190 : (Jvm.Cond.declares ({ cls := "java/lang/Throwable", name := "<init>", desc := "()V" } : Jvm.MethodName)) ∈ lw_tbl := lw_at lw_m1 91 rfl
theorem q191 : (Jvm.Cond.declares ({ cls := "java/lang/Throwable", name := "<init>", desc := "(Ljava/lang/String;)V" } : Jvm.MethodName)) ∈ lw_tbl := lw_at lw_m1 92 rfl
theorem q195 : (Jvm.Cond.lays "java/lang/Throwable" "java/lang/Throwable" "cause" "Ljava/lang/Throwable;") ∈ lw_all := lw_g (lw_at lw_m1 96 rfl) rfl
theorem q197 : (Jvm.Cond.lays "java/lang/Throwable" "java/lang/Throwable" "stackTrace" "[Ljava/lang/StackTraceElement;") ∈ lw_all := lw_g (lw_at lw_m1 98 rfl) rfl
theorem q199 : (Jvm.Cond.lays "java/lang/Throwable" "java/lang/Throwable" "suppressedExceptions" "Ljava/util/List;") ∈ lw_all := lw_g (lw_at lw_m1 100 rfl) rfl
theorem q201 : (Jvm.Cond.lays "java/lang/Throwable" "java/lang/Throwable" "detailMessage" "Ljava/lang/String;") ∈ lw_all := lw_g (lw_at lw_m1 102 rfl) rfl
theorem q203 : (Jvm.Cond.lays "java/lang/Throwable" "java/lang/Throwable" "backtrace" "Ljava/lang/Object;") ∈ lw_all := lw_g (lw_at lw_m1 104 rfl) rfl
theorem q204 : (Jvm.Cond.fieldLink "java/lang/Throwable" (198 : Nat) "java/lang/Throwable" "backtrace" "Ljava/lang/Object;") ∈ lw_all := lw_g (lw_at lw_m1 105 rfl) rfl
theorem q205 : (Jvm.Cond.superclass "java/lang/Throwable" "java/lang/Object") ∈ lw_all := lw_g (lw_at lw_m1 106 rfl) rfl
theorem q206 : (Jvm.Cond.instanceMethod ({ cls := "java/lang/Throwable", name := "<init>", desc := "()V" } : Jvm.MethodName)) ∈ lw_all := lw_g (lw_at lw_m1 107 rfl) rfl
theorem q207 : (Jvm.Cond.code ({ cls := "java/lang/Throwable", name := "<init>", desc := "()V" } : Jvm.MethodName) prog_53_method_1_code (1 : Nat) (Option.none : Option Jvm.ClassFile.FieldType)) ∈ lw_all := lw_g (lw_at lw_m1 108 rfl) rfl
theorem q208 : (Jvm.Cond.methodLink "java/lang/Throwable" (1 : Nat) ({ cls := "java/lang/Object", name := "<init>", desc := "()V" } : Jvm.MethodName)) ∈ lw_all := lw_g (lw_at lw_m1 109 rfl) rfl
theorem q209 : (Jvm.Cond.fieldLink "java/lang/Throwable" (13 : Nat) "java/lang/Throwable" "UNASSIGNED_STACK" "[Ljava/lang/StackTraceElement;") ∈ lw_all := lw_g (lw_at lw_m1 110 rfl) rfl
theorem q210 : (Jvm.Cond.laysStatic "java/lang/Throwable" "UNASSIGNED_STACK" "[Ljava/lang/StackTraceElement;") ∈ lw_tbl := lw_at lw_m1 111 rfl
theorem q211 : (Jvm.Cond.fieldLink "java/lang/Throwable" (20 : Nat) "java/lang/Throwable" "SUPPRESSED_SENTINEL" "Ljava/util/List;") ∈ lw_all := lw_g (lw_at lw_m1 112 rfl) rfl
theorem q212 : (Jvm.Cond.laysStatic "java/lang/Throwable" "SUPPRESSED_SENTINEL" "Ljava/util/List;") ∈ lw_tbl := lw_at lw_m1 113 rfl
theorem q213 : (Jvm.Cond.methodLink "java/lang/Throwable" (27 : Nat) ({ cls := "java/lang/Throwable", name := "fillInStackTrace", desc := "()Ljava/lang/Throwable;" } : Jvm.MethodName)) ∈ lw_all := lw_g (lw_at lw_m1 114 rfl) rfl
theorem q214 : (Jvm.Cond.instanceMethod ({ cls := "java/lang/Throwable", name := "fillInStackTrace", desc := "()Ljava/lang/Throwable;" } : Jvm.MethodName)) ∈ lw_all := lw_g (lw_at lw_m1 115 rfl) rfl
theorem q215 : (Jvm.Cond.sameMethod "java/lang/Throwable" "java/lang/Throwable" "fillInStackTrace" "()Ljava/lang/Throwable;") ∈ lw_all := lw_g (lw_at lw_m1 116 rfl) rfl
theorem q218 : (Jvm.Cond.codeSync ({ cls := "java/lang/Throwable", name := "fillInStackTrace", desc := "()Ljava/lang/Throwable;" } : Jvm.MethodName) prog_53_method_18_code (1 : Nat) (Option.some (Jvm.ClassFile.FieldType.object "java/lang/Throwable"))) ∈ lw_all := lw_g (lw_at lw_m1 119 rfl) rfl
theorem q219 : (Jvm.Cond.methodLink "java/lang/Throwable" (202 : Nat) ({ cls := "java/lang/Throwable", name := "fillInStackTrace", desc := "(I)Ljava/lang/Throwable;" } : Jvm.MethodName)) ∈ lw_all := lw_g (lw_at lw_m1 120 rfl) rfl
theorem q220 : (Jvm.Cond.privateMethod ({ cls := "java/lang/Throwable", name := "fillInStackTrace", desc := "(I)Ljava/lang/Throwable;" } : Jvm.MethodName)) ∈ lw_tbl := lw_at lw_m1 121 rfl
theorem q221 : (Jvm.Cond.instanceMethod ({ cls := "java/lang/Throwable", name := "fillInStackTrace", desc := "(I)Ljava/lang/Throwable;" } : Jvm.MethodName)) ∈ lw_all := lw_g (lw_at lw_m1 122 rfl) rfl
theorem q222 : (Jvm.Cond.instantiable "java/lang/Throwable" (6 : Nat)) ∈ lw_all := lw_g (lw_at lw_m1 123 rfl) rfl
theorem q223 : (Jvm.Cond.native ({ cls := "java/lang/Throwable", name := "fillInStackTrace", desc := "(I)Ljava/lang/Throwable;" } : Jvm.MethodName)) ∈ lw_all := lw_g (lw_at lw_m1 124 rfl) rfl
theorem q456 : (Jvm.Cond.instanceMethod ({ cls := "java/lang/Throwable", name := "<init>", desc := "(Ljava/lang/String;)V" } : Jvm.MethodName)) ∈ lw_all := lw_g (lw_at lw_m2 117 rfl) rfl
theorem q457 : (Jvm.Cond.code ({ cls := "java/lang/Throwable", name := "<init>", desc := "(Ljava/lang/String;)V" } : Jvm.MethodName) prog_53_method_2_code (2 : Nat) (Option.none : Option Jvm.ClassFile.FieldType)) ∈ lw_all := lw_g (lw_at lw_m2 118 rfl) rfl
theorem q458 : (Jvm.Cond.fieldLink "java/lang/Throwable" (198 : Nat) "java/lang/Throwable" "backtrace" "Ljava/lang/Object;") ∈ lw_all := lw_g (lw_at lw_m2 119 rfl) rfl
theorem q459 : (Jvm.Cond.fieldLink "java/lang/Throwable" (31 : Nat) "java/lang/Throwable" "detailMessage" "Ljava/lang/String;") ∈ lw_all := lw_g (lw_at lw_m2 120 rfl) rfl
theorem q460 : (Jvm.Cond.fieldLink "java/lang/Throwable" (7 : Nat) "java/lang/Throwable" "cause" "Ljava/lang/Throwable;") ∈ lw_all := lw_g (lw_at lw_m2 121 rfl) rfl
theorem q461 : (Jvm.Cond.fieldLink "java/lang/Throwable" (17 : Nat) "java/lang/Throwable" "stackTrace" "[Ljava/lang/StackTraceElement;") ∈ lw_all := lw_g (lw_at lw_m2 122 rfl) rfl
theorem q462 : (Jvm.Cond.fieldLink "java/lang/Throwable" (24 : Nat) "java/lang/Throwable" "suppressedExceptions" "Ljava/util/List;") ∈ lw_all := lw_g (lw_at lw_m2 123 rfl) rfl
theorem q463 : (Jvm.Cond.soleField "java/lang/Throwable" "backtrace") ∈ lw_all := lw_g (lw_at lw_m2 124 rfl) rfl
theorem q464 : (Jvm.Cond.soleField "java/lang/Throwable" "detailMessage") ∈ lw_all := lw_g (lw_at lw_m2 125 rfl) rfl
theorem q465 : (Jvm.Cond.soleField "java/lang/Throwable" "cause") ∈ lw_all := lw_g (lw_at lw_m2 126 rfl) rfl
theorem q466 : (Jvm.Cond.soleField "java/lang/Throwable" "stackTrace") ∈ lw_all := lw_g (lw_at lw_m2 127 rfl) rfl
theorem q468 : (Jvm.Cond.soleField "java/lang/Throwable" "depth") ∈ lw_all := lw_g (lw_at lw_m2 129 rfl) rfl
theorem q469 : (Jvm.Cond.soleField "java/lang/Throwable" "suppressedExceptions") ∈ lw_all := lw_g (lw_at lw_m2 130 rfl) rfl
theorem q1142 : (Jvm.Cond.instanceMethod ({ cls := "java/lang/Throwable", name := "<init>", desc := "(Ljava/lang/String;Ljava/lang/Throwable;ZZ)V" } : Jvm.MethodName)) ∈ lw_all := lw_g (lw_at lw_m5 83 rfl) rfl
theorem q1143 : (Jvm.Cond.code ({ cls := "java/lang/Throwable", name := "<init>", desc := "(Ljava/lang/String;Ljava/lang/Throwable;ZZ)V" } : Jvm.MethodName) prog_53_method_5_code (5 : Nat) (Option.none : Option Jvm.ClassFile.FieldType)) ∈ lw_all := lw_g (lw_at lw_m5 84 rfl) rfl
theorem q2577 : (Jvm.Cond.sameMethod "java/lang/Throwable" "java/lang/Throwable" "fillInStackTrace" "(I)Ljava/lang/Throwable;") ∈ lw_all := lw_g (lw_at lw_m11 78 rfl) rfl
theorem q2639 : (Jvm.Cond.castable "java/lang/Throwable" "java/lang/Object") ∈ lw_tbl := lw_at lw_m11 140 rfl
theorem in_J3 : ∀ w ∈ wsJ30, w ∈ lw_all := lw_in wsJ30 [195, 197, 199, 201, 203] (by decide +kernel) (by decide +kernel)
/-! java/lang/Exception -/
def RJ4 : String := "java/lang/Exception"
abbrev cJ4_init : ByteArray := prog_40_method_2_code
def yJ4_init : MethodName := ⟨RJ4, "<init>", "(Ljava/lang/String;)V"⟩
abbrev cJ4_init_2 : ByteArray := prog_40_method_1_code
def yJ4_init_2 : MethodName := ⟨RJ4, "<init>", "()V"⟩
abbrev cJ4_init_3 : ByteArray := prog_40_method_5_code
def yJ4_init_3 : MethodName := ⟨RJ4, "<init>", "(Ljava/lang/String;Ljava/lang/Throwable;ZZ)V"⟩
theorem q106 : (Jvm.Cond.initialized "java/lang/Exception") ∈ lw_all := lw_g (lw_at lw_m1 7 rfl) rfl
theorem q188 : (Jvm.Cond.declares ({ cls := "java/lang/Exception", name := "<init>", desc := "()V" } : Jvm.MethodName)) ∈ lw_tbl := lw_at lw_m1 89 rfl
theorem q189 : (Jvm.Cond.declares ({ cls := "java/lang/Exception", name := "<init>", desc := "(Ljava/lang/String;)V" } : Jvm.MethodName)) ∈ lw_tbl := lw_at lw_m1 90 rfl
theorem q453 : (Jvm.Cond.instanceMethod ({ cls := "java/lang/Exception", name := "<init>", desc := "(Ljava/lang/String;)V" } : Jvm.MethodName)) ∈ lw_all := lw_g (lw_at lw_m2 114 rfl) rfl
theorem q454 : (Jvm.Cond.code ({ cls := "java/lang/Exception", name := "<init>", desc := "(Ljava/lang/String;)V" } : Jvm.MethodName) prog_40_method_2_code (2 : Nat) (Option.none : Option Jvm.ClassFile.FieldType)) ∈ lw_all := lw_g (lw_at lw_m2 115 rfl) rfl
theorem q455 : (Jvm.Cond.methodLink "java/lang/Exception" (7 : Nat) ({ cls := "java/lang/Throwable", name := "<init>", desc := "(Ljava/lang/String;)V" } : Jvm.MethodName)) ∈ lw_all := lw_g (lw_at lw_m2 116 rfl) rfl
theorem q947 : (Jvm.Cond.instanceMethod ({ cls := "java/lang/Exception", name := "<init>", desc := "()V" } : Jvm.MethodName)) ∈ lw_all := lw_g (lw_at lw_m4 128 rfl) rfl
theorem q948 : (Jvm.Cond.code ({ cls := "java/lang/Exception", name := "<init>", desc := "()V" } : Jvm.MethodName) prog_40_method_1_code (1 : Nat) (Option.none : Option Jvm.ClassFile.FieldType)) ∈ lw_all := lw_g (lw_at lw_m4 129 rfl) rfl
theorem q949 : (Jvm.Cond.methodLink "java/lang/Exception" (1 : Nat) ({ cls := "java/lang/Throwable", name := "<init>", desc := "()V" } : Jvm.MethodName)) ∈ lw_all := lw_g (lw_at lw_m4 130 rfl) rfl
theorem q1139 : (Jvm.Cond.instanceMethod ({ cls := "java/lang/Exception", name := "<init>", desc := "(Ljava/lang/String;Ljava/lang/Throwable;ZZ)V" } : Jvm.MethodName)) ∈ lw_all := lw_g (lw_at lw_m5 80 rfl) rfl
theorem q1140 : (Jvm.Cond.code ({ cls := "java/lang/Exception", name := "<init>", desc := "(Ljava/lang/String;Ljava/lang/Throwable;ZZ)V" } : Jvm.MethodName) prog_40_method_5_code (5 : Nat) (Option.none : Option Jvm.ClassFile.FieldType)) ∈ lw_all := lw_g (lw_at lw_m5 81 rfl) rfl
theorem q1141 : (Jvm.Cond.methodLink "java/lang/Exception" (16 : Nat) ({ cls := "java/lang/Throwable", name := "<init>", desc := "(Ljava/lang/String;Ljava/lang/Throwable;ZZ)V" } : Jvm.MethodName)) ∈ lw_all := lw_g (lw_at lw_m5 82 rfl) rfl
/-! java/lang/RuntimeException -/
def RJ5 : String := "java/lang/RuntimeException"
abbrev cJ5_init : ByteArray := prog_46_method_2_code
def yJ5_init : MethodName := ⟨RJ5, "<init>", "(Ljava/lang/String;)V"⟩
abbrev cJ5_init_2 : ByteArray := prog_46_method_1_code
def yJ5_init_2 : MethodName := ⟨RJ5, "<init>", "()V"⟩
theorem q107 : (Jvm.Cond.initialized "java/lang/RuntimeException") ∈ lw_all := lw_g (lw_at lw_m1 8 rfl) rfl
theorem q186 : (Jvm.Cond.declares ({ cls := "java/lang/RuntimeException", name := "<init>", desc := "()V" } : Jvm.MethodName)) ∈ lw_tbl := lw_at lw_m1 87 rfl
theorem q187 : (Jvm.Cond.declares ({ cls := "java/lang/RuntimeException", name := "<init>", desc := "(Ljava/lang/String;)V" } : Jvm.MethodName)) ∈ lw_tbl := lw_at lw_m1 88 rfl
theorem q450 : (Jvm.Cond.instanceMethod ({ cls := "java/lang/RuntimeException", name := "<init>", desc := "(Ljava/lang/String;)V" } : Jvm.MethodName)) ∈ lw_all := lw_g (lw_at lw_m2 111 rfl) rfl
theorem q451 : (Jvm.Cond.code ({ cls := "java/lang/RuntimeException", name := "<init>", desc := "(Ljava/lang/String;)V" } : Jvm.MethodName) prog_46_method_2_code (2 : Nat) (Option.none : Option Jvm.ClassFile.FieldType)) ∈ lw_all := lw_g (lw_at lw_m2 112 rfl) rfl
theorem q452 : (Jvm.Cond.methodLink "java/lang/RuntimeException" (7 : Nat) ({ cls := "java/lang/Exception", name := "<init>", desc := "(Ljava/lang/String;)V" } : Jvm.MethodName)) ∈ lw_all := lw_g (lw_at lw_m2 113 rfl) rfl
theorem q944 : (Jvm.Cond.instanceMethod ({ cls := "java/lang/RuntimeException", name := "<init>", desc := "()V" } : Jvm.MethodName)) ∈ lw_all := lw_g (lw_at lw_m4 125 rfl) rfl
theorem q945 : (Jvm.Cond.code ({ cls := "java/lang/RuntimeException", name := "<init>", desc := "()V" } : Jvm.MethodName) prog_46_method_1_code (1 : Nat) (Option.none : Option Jvm.ClassFile.FieldType)) ∈ lw_all := lw_g (lw_at lw_m4 126 rfl) rfl
theorem q946 : (Jvm.Cond.methodLink "java/lang/RuntimeException" (1 : Nat) ({ cls := "java/lang/Exception", name := "<init>", desc := "()V" } : Jvm.MethodName)) ∈ lw_all := lw_g (lw_at lw_m4 127 rfl) rfl
/-! java/lang/IllegalArgumentException -/
def RJ6 : String := "java/lang/IllegalArgumentException"
def TJ6 : u_T := fun k => match k with
  | 0 => ("java/lang/Throwable", "cause", "Ljava/lang/Throwable;", false)
  | 1 => ("java/lang/Throwable", "stackTrace", "[Ljava/lang/StackTraceElement;", false)
  | 2 => ("java/lang/Throwable", "suppressedExceptions", "Ljava/util/List;", false)
  | 3 => ("java/lang/Throwable", "detailMessage", "Ljava/lang/String;", false)
  | 4 => ("java/lang/Throwable", "backtrace", "Ljava/lang/Object;", false)
  | _ => ("java/lang/Throwable", "depth", "I", false)
def tyJ6 : Nat → FieldType := fun k => match k with
  | 0 => .object "java/lang/Throwable"
  | 1 => .array (.object "java/lang/StackTraceElement")
  | 2 => .object "java/util/List"
  | 3 => .object "java/lang/String"
  | 4 => .object "java/lang/Object"
  | _ => .int
abbrev wsJ60 : List Cond := u_ws RJ6 TJ6 6
theorem nmJ6 : ∀ a, a < 6 → ∀ b, b < 6 → a ≠ b → (TJ6 a).2.1 ≠ (TJ6 b).2.1 := by decide +kernel
theorem tyJ6_ok : ∀ k, k < 6 → parseFieldDescriptor (TJ6 k).2.2.1 = some (tyJ6 k) := by decide +kernel
abbrev cJ6_init : ByteArray := prog_41_method_2_code
def yJ6_init : MethodName := ⟨RJ6, "<init>", "(Ljava/lang/String;)V"⟩
abbrev cJ6_init_2 : ByteArray := prog_41_method_1_code
def yJ6_init_2 : MethodName := ⟨RJ6, "<init>", "()V"⟩
theorem q108 : (Jvm.Cond.initialized "java/lang/IllegalArgumentException") ∈ lw_all := lw_g (lw_at lw_m1 9 rfl) rfl
theorem q184 : (Jvm.Cond.instantiable "java/lang/IllegalArgumentException" (6 : Nat)) ∈ lw_all := lw_g (lw_at lw_m1 85 rfl) rfl
theorem q185 : (Jvm.Cond.castable "java/lang/IllegalArgumentException" "java/lang/IllegalArgumentException") ∈ lw_tbl := lw_at lw_m1 86 rfl
theorem q192 : (Jvm.Cond.selects "java/lang/IllegalArgumentException" ({ cls := "java/lang/Throwable", name := "fillInStackTrace", desc := "(I)Ljava/lang/Throwable;" } : Jvm.MethodName) ({ cls := "java/lang/Throwable", name := "fillInStackTrace", desc := "(I)Ljava/lang/Throwable;" } : Jvm.MethodName)) ∈ lw_all := lw_g (lw_at lw_m1 93 rfl) rfl
theorem q193 : (Jvm.Cond.selects "java/lang/IllegalArgumentException" ({ cls := "java/lang/Throwable", name := "fillInStackTrace", desc := "()Ljava/lang/Throwable;" } : Jvm.MethodName) ({ cls := "java/lang/Throwable", name := "fillInStackTrace", desc := "()Ljava/lang/Throwable;" } : Jvm.MethodName)) ∈ lw_all := lw_g (lw_at lw_m1 94 rfl) rfl
theorem q194 : (Jvm.Cond.lays "java/lang/IllegalArgumentException" "java/lang/Throwable" "cause" "Ljava/lang/Throwable;") ∈ lw_all := lw_g (lw_at lw_m1 95 rfl) rfl
theorem q196 : (Jvm.Cond.lays "java/lang/IllegalArgumentException" "java/lang/Throwable" "stackTrace" "[Ljava/lang/StackTraceElement;") ∈ lw_all := lw_g (lw_at lw_m1 97 rfl) rfl
theorem q198 : (Jvm.Cond.lays "java/lang/IllegalArgumentException" "java/lang/Throwable" "suppressedExceptions" "Ljava/util/List;") ∈ lw_all := lw_g (lw_at lw_m1 99 rfl) rfl
theorem q200 : (Jvm.Cond.lays "java/lang/IllegalArgumentException" "java/lang/Throwable" "detailMessage" "Ljava/lang/String;") ∈ lw_all := lw_g (lw_at lw_m1 101 rfl) rfl
theorem q202 : (Jvm.Cond.lays "java/lang/IllegalArgumentException" "java/lang/Throwable" "backtrace" "Ljava/lang/Object;") ∈ lw_all := lw_g (lw_at lw_m1 103 rfl) rfl
theorem q447 : (Jvm.Cond.instanceMethod ({ cls := "java/lang/IllegalArgumentException", name := "<init>", desc := "(Ljava/lang/String;)V" } : Jvm.MethodName)) ∈ lw_all := lw_g (lw_at lw_m2 108 rfl) rfl
theorem q448 : (Jvm.Cond.code ({ cls := "java/lang/IllegalArgumentException", name := "<init>", desc := "(Ljava/lang/String;)V" } : Jvm.MethodName) prog_41_method_2_code (2 : Nat) (Option.none : Option Jvm.ClassFile.FieldType)) ∈ lw_all := lw_g (lw_at lw_m2 109 rfl) rfl
theorem q449 : (Jvm.Cond.methodLink "java/lang/IllegalArgumentException" (7 : Nat) ({ cls := "java/lang/RuntimeException", name := "<init>", desc := "(Ljava/lang/String;)V" } : Jvm.MethodName)) ∈ lw_all := lw_g (lw_at lw_m2 110 rfl) rfl
theorem q467 : (Jvm.Cond.lays "java/lang/IllegalArgumentException" "java/lang/Throwable" "depth" "I") ∈ lw_all := lw_g (lw_at lw_m2 128 rfl) rfl
theorem q470 : (Jvm.Cond.superclass "java/lang/IllegalArgumentException" "java/lang/RuntimeException") ∈ lw_all := lw_g (lw_at lw_m2 131 rfl) rfl
theorem q941 : (Jvm.Cond.instanceMethod ({ cls := "java/lang/IllegalArgumentException", name := "<init>", desc := "()V" } : Jvm.MethodName)) ∈ lw_all := lw_g (lw_at lw_m4 122 rfl) rfl
theorem q942 : (Jvm.Cond.code ({ cls := "java/lang/IllegalArgumentException", name := "<init>", desc := "()V" } : Jvm.MethodName) prog_41_method_1_code (1 : Nat) (Option.none : Option Jvm.ClassFile.FieldType)) ∈ lw_all := lw_g (lw_at lw_m4 123 rfl) rfl
theorem q943 : (Jvm.Cond.methodLink "java/lang/IllegalArgumentException" (1 : Nat) ({ cls := "java/lang/RuntimeException", name := "<init>", desc := "()V" } : Jvm.MethodName)) ∈ lw_all := lw_g (lw_at lw_m4 124 rfl) rfl
theorem q1250 : (Jvm.Cond.selects "java/lang/IllegalArgumentException" ({ cls := "java/lang/Object", name := "getClass", desc := "()Ljava/lang/Class;" } : Jvm.MethodName) ({ cls := "java/lang/Object", name := "getClass", desc := "()Ljava/lang/Class;" } : Jvm.MethodName)) ∈ lw_all := lw_g (lw_at lw_m5 191 rfl) rfl
theorem q2610 : (Jvm.Cond.castable "java/lang/IllegalArgumentException" "java/lang/Object") ∈ lw_tbl := lw_at lw_m11 111 rfl
theorem in_J6 : ∀ w ∈ wsJ60, w ∈ lw_all := lw_in wsJ60 [194, 196, 198, 200, 202, 467] (by decide +kernel) (by decide +kernel)
/-! java/lang/AbstractStringBuilder -/
def RJ7 : String := "java/lang/AbstractStringBuilder"
abbrev cJ7_init : ByteArray := prog_35_method_2_code
def yJ7_init : MethodName := ⟨RJ7, "<init>", "(I)V"⟩
abbrev cJ7_append : ByteArray := prog_35_method_22_code
def yJ7_append : MethodName := ⟨RJ7, "append", "(Ljava/lang/String;)Ljava/lang/AbstractStringBuilder;"⟩
abbrev cJ7_appendNull : ByteArray := prog_35_method_26_code
def yJ7_appendNull : MethodName := ⟨RJ7, "appendNull", "()Ljava/lang/AbstractStringBuilder;"⟩
abbrev cJ7_ensureCapacityInternal : ByteArray := prog_35_method_9_code
def yJ7_ensureCapacityInternal : MethodName := ⟨RJ7, "ensureCapacityInternal", "(I)V"⟩
abbrev cJ7_newCapacity : ByteArray := prog_35_method_10_code
def yJ7_newCapacity : MethodName := ⟨RJ7, "newCapacity", "(I)I"⟩
abbrev cJ7_isLatin1 : ByteArray := prog_35_method_68_code
def yJ7_isLatin1 : MethodName := ⟨RJ7, "isLatin1", "()Z"⟩
abbrev cJ7_putStringAt : ByteArray := prog_35_method_73_code
def yJ7_putStringAt : MethodName := ⟨RJ7, "putStringAt", "(ILjava/lang/String;)V"⟩
abbrev cJ7_inflateIfNeededFor : ByteArray := prog_35_method_71_code
def yJ7_inflateIfNeededFor : MethodName := ⟨RJ7, "inflateIfNeededFor", "(Ljava/lang/String;)V"⟩
abbrev cJ7_inflate : ByteArray := prog_35_method_11_code
def yJ7_inflate : MethodName := ⟨RJ7, "inflate", "()V"⟩
abbrev cJ7_append_2 : ByteArray := prog_35_method_32_code
def yJ7_append_2 : MethodName := ⟨RJ7, "append", "(I)Ljava/lang/AbstractStringBuilder;"⟩
abbrev cJ7_getValue : ByteArray := prog_35_method_64_code
def yJ7_getValue : MethodName := ⟨RJ7, "getValue", "()[B"⟩
abbrev cJ7_length : ByteArray := prog_35_method_6_code
def yJ7_length : MethodName := ⟨RJ7, "length", "()I"⟩
abbrev cJ7_append_3 : ByteArray := prog_35_method_31_code
def yJ7_append_3 : MethodName := ⟨RJ7, "append", "(C)Ljava/lang/AbstractStringBuilder;"⟩
theorem q109 : (Jvm.Cond.initialized "java/lang/AbstractStringBuilder") ∈ lw_all := lw_g (lw_at lw_m1 10 rfl) rfl
theorem q230 : (Jvm.Cond.instanceMethod ({ cls := "java/lang/AbstractStringBuilder", name := "<init>", desc := "(I)V" } : Jvm.MethodName)) ∈ lw_all := lw_g (lw_at lw_m1 131 rfl) rfl
theorem q231 : (Jvm.Cond.code ({ cls := "java/lang/AbstractStringBuilder", name := "<init>", desc := "(I)V" } : Jvm.MethodName) prog_35_method_2_code (2 : Nat) (Option.none : Option Jvm.ClassFile.FieldType)) ∈ lw_all := lw_g (lw_at lw_m1 132 rfl) rfl
theorem q232 : (Jvm.Cond.methodLink "java/lang/AbstractStringBuilder" (3 : Nat) ({ cls := "java/lang/Object", name := "<init>", desc := "()V" } : Jvm.MethodName)) ∈ lw_all := lw_g (lw_at lw_m1 133 rfl) rfl
theorem q233 : (Jvm.Cond.fieldLink "java/lang/AbstractStringBuilder" (18 : Nat) "java/lang/String" "COMPACT_STRINGS" "Z") ∈ lw_all := lw_g (lw_at lw_m1 134 rfl) rfl
theorem q235 : (Jvm.Cond.methodLink "java/lang/AbstractStringBuilder" (26 : Nat) ({ cls := "java/lang/StringUTF16", name := "newBytesFor", desc := "(I)[B" } : Jvm.MethodName)) ∈ lw_all := lw_g (lw_at lw_m1 136 rfl) rfl
theorem q242 : (Jvm.Cond.fieldLink "java/lang/AbstractStringBuilder" (15 : Nat) "java/lang/AbstractStringBuilder" "value" "[B") ∈ lw_all := lw_g (lw_at lw_m1 143 rfl) rfl
theorem q243 : (Jvm.Cond.fieldLink "java/lang/AbstractStringBuilder" (22 : Nat) "java/lang/AbstractStringBuilder" "coder" "B") ∈ lw_all := lw_g (lw_at lw_m1 144 rfl) rfl
theorem q245 : (Jvm.Cond.fieldLink "java/lang/AbstractStringBuilder" (79 : Nat) "java/lang/AbstractStringBuilder" "count" "I") ∈ lw_all := lw_g (lw_at lw_m1 146 rfl) rfl
theorem q247 : (Jvm.Cond.soleField "java/lang/AbstractStringBuilder" "value") ∈ lw_all := lw_g (lw_at lw_m1 148 rfl) rfl
theorem q249 : (Jvm.Cond.soleField "java/lang/AbstractStringBuilder" "coder") ∈ lw_all := lw_g (lw_at lw_m1 150 rfl) rfl
theorem q251 : (Jvm.Cond.soleField "java/lang/AbstractStringBuilder" "maybeLatin1") ∈ lw_all := lw_g (lw_at lw_m1 152 rfl) rfl
theorem q253 : (Jvm.Cond.soleField "java/lang/AbstractStringBuilder" "count") ∈ lw_all := lw_g (lw_at lw_m1 154 rfl) rfl
theorem q263 : (Jvm.Cond.instanceMethod ({ cls := "java/lang/AbstractStringBuilder", name := "append", desc := "(Ljava/lang/String;)Ljava/lang/AbstractStringBuilder;" } : Jvm.MethodName)) ∈ lw_all := lw_g (lw_at lw_m1 164 rfl) rfl
theorem q264 : (Jvm.Cond.code ({ cls := "java/lang/AbstractStringBuilder", name := "append", desc := "(Ljava/lang/String;)Ljava/lang/AbstractStringBuilder;" } : Jvm.MethodName) prog_35_method_22_code (3 : Nat) (Option.some (Jvm.ClassFile.FieldType.object "java/lang/AbstractStringBuilder"))) ∈ lw_all := lw_g (lw_at lw_m1 165 rfl) rfl
theorem q265 : (Jvm.Cond.methodLink "java/lang/AbstractStringBuilder" (204 : Nat) ({ cls := "java/lang/AbstractStringBuilder", name := "appendNull", desc := "()Ljava/lang/AbstractStringBuilder;" } : Jvm.MethodName)) ∈ lw_all := lw_g (lw_at lw_m1 166 rfl) rfl
theorem q266 : (Jvm.Cond.privateMethod ({ cls := "java/lang/AbstractStringBuilder", name := "appendNull", desc := "()Ljava/lang/AbstractStringBuilder;" } : Jvm.MethodName)) ∈ lw_tbl := lw_at lw_m1 167 rfl
theorem q267 : (Jvm.Cond.instanceMethod ({ cls := "java/lang/AbstractStringBuilder", name := "appendNull", desc := "()Ljava/lang/AbstractStringBuilder;" } : Jvm.MethodName)) ∈ lw_all := lw_g (lw_at lw_m1 168 rfl) rfl
theorem q268 : (Jvm.Cond.code ({ cls := "java/lang/AbstractStringBuilder", name := "appendNull", desc := "()Ljava/lang/AbstractStringBuilder;" } : Jvm.MethodName) prog_35_method_26_code (3 : Nat) (Option.some (Jvm.ClassFile.FieldType.object "java/lang/AbstractStringBuilder"))) ∈ lw_all := lw_g (lw_at lw_m1 169 rfl) rfl
theorem q269 : (Jvm.Cond.methodLink "java/lang/AbstractStringBuilder" (100 : Nat) ({ cls := "java/lang/AbstractStringBuilder", name := "ensureCapacityInternal", desc := "(I)V" } : Jvm.MethodName)) ∈ lw_all := lw_g (lw_at lw_m1 170 rfl) rfl
theorem q270 : (Jvm.Cond.privateMethod ({ cls := "java/lang/AbstractStringBuilder", name := "ensureCapacityInternal", desc := "(I)V" } : Jvm.MethodName)) ∈ lw_tbl := lw_at lw_m1 171 rfl
theorem q271 : (Jvm.Cond.instanceMethod ({ cls := "java/lang/AbstractStringBuilder", name := "ensureCapacityInternal", desc := "(I)V" } : Jvm.MethodName)) ∈ lw_all := lw_g (lw_at lw_m1 172 rfl) rfl
theorem q272 : (Jvm.Cond.code ({ cls := "java/lang/AbstractStringBuilder", name := "ensureCapacityInternal", desc := "(I)V" } : Jvm.MethodName) prog_35_method_9_code (3 : Nat) (Option.none : Option Jvm.ClassFile.FieldType)) ∈ lw_all := lw_g (lw_at lw_m1 173 rfl) rfl
theorem q273 : (Jvm.Cond.methodLink "java/lang/AbstractStringBuilder" (104 : Nat) ({ cls := "java/lang/AbstractStringBuilder", name := "newCapacity", desc := "(I)I" } : Jvm.MethodName)) ∈ lw_all := lw_g (lw_at lw_m1 174 rfl) rfl
theorem q274 : (Jvm.Cond.privateMethod ({ cls := "java/lang/AbstractStringBuilder", name := "newCapacity", desc := "(I)I" } : Jvm.MethodName)) ∈ lw_tbl := lw_at lw_m1 175 rfl
theorem q275 : (Jvm.Cond.instanceMethod ({ cls := "java/lang/AbstractStringBuilder", name := "newCapacity", desc := "(I)I" } : Jvm.MethodName)) ∈ lw_all := lw_g (lw_at lw_m1 176 rfl) rfl
theorem q276 : (Jvm.Cond.code ({ cls := "java/lang/AbstractStringBuilder", name := "newCapacity", desc := "(I)I" } : Jvm.MethodName) prog_35_method_10_code (6 : Nat) (Option.some Jvm.ClassFile.FieldType.int)) ∈ lw_all := lw_g (lw_at lw_m1 177 rfl) rfl
theorem q277 : (Jvm.Cond.methodLink "java/lang/AbstractStringBuilder" (114 : Nat) ({ cls := "jdk/internal/util/ArraysSupport", name := "newLength", desc := "(III)I" } : Jvm.MethodName)) ∈ lw_all := lw_g (lw_at lw_m1 178 rfl) rfl
theorem q287 : (Jvm.Cond.constant "java/lang/AbstractStringBuilder" (39 : Nat) (2147483647 : Int32)) ∈ lw_all := lw_g (lw_at lw_m1 188 rfl) rfl
theorem q288 : (Jvm.Cond.methodLink "java/lang/AbstractStringBuilder" (108 : Nat) ({ cls := "java/util/Arrays", name := "copyOf", desc := "([BI)[B" } : Jvm.MethodName)) ∈ lw_all := lw_g (lw_at lw_m1 189 rfl) rfl
theorem q304 : (Jvm.Cond.methodLink "java/lang/AbstractStringBuilder" (83 : Nat) ({ cls := "java/lang/AbstractStringBuilder", name := "isLatin1", desc := "()Z" } : Jvm.MethodName)) ∈ lw_all := lw_g (lw_at lw_m1 205 rfl) rfl
theorem q305 : (Jvm.Cond.instanceMethod ({ cls := "java/lang/AbstractStringBuilder", name := "isLatin1", desc := "()Z" } : Jvm.MethodName)) ∈ lw_all := lw_g (lw_at lw_m1 206 rfl) rfl
theorem q306 : (Jvm.Cond.sameMethod "java/lang/AbstractStringBuilder" "java/lang/AbstractStringBuilder" "isLatin1" "()Z") ∈ lw_all := lw_g (lw_at lw_m1 207 rfl) rfl
theorem q308 : (Jvm.Cond.code ({ cls := "java/lang/AbstractStringBuilder", name := "isLatin1", desc := "()Z" } : Jvm.MethodName) prog_35_method_68_code (1 : Nat) (Option.some Jvm.ClassFile.FieldType.boolean)) ∈ lw_all := lw_g (lw_at lw_m1 209 rfl) rfl
theorem q309 : (Jvm.Cond.methodLink "java/lang/AbstractStringBuilder" (226 : Nat) ({ cls := "java/lang/StringUTF16", name := "putCharsAt", desc := "([BICCCC)I" } : Jvm.MethodName)) ∈ lw_all := lw_g (lw_at lw_m1 210 rfl) rfl
theorem q335 : (Jvm.Cond.methodLink "java/lang/AbstractStringBuilder" (32 : Nat) ({ cls := "java/lang/String", name := "length", desc := "()I" } : Jvm.MethodName)) ∈ lw_all := lw_g (lw_at lw_m1 236 rfl) rfl
theorem q344 : (Jvm.Cond.methodLink "java/lang/AbstractStringBuilder" (208 : Nat) ({ cls := "java/lang/AbstractStringBuilder", name := "putStringAt", desc := "(ILjava/lang/String;)V" } : Jvm.MethodName)) ∈ lw_all := lw_g (lw_at lw_m2 5 rfl) rfl
theorem q345 : (Jvm.Cond.privateMethod ({ cls := "java/lang/AbstractStringBuilder", name := "putStringAt", desc := "(ILjava/lang/String;)V" } : Jvm.MethodName)) ∈ lw_tbl := lw_at lw_m2 6 rfl
theorem q346 : (Jvm.Cond.instanceMethod ({ cls := "java/lang/AbstractStringBuilder", name := "putStringAt", desc := "(ILjava/lang/String;)V" } : Jvm.MethodName)) ∈ lw_all := lw_g (lw_at lw_m2 7 rfl) rfl
theorem q347 : (Jvm.Cond.code ({ cls := "java/lang/AbstractStringBuilder", name := "putStringAt", desc := "(ILjava/lang/String;)V" } : Jvm.MethodName) prog_35_method_73_code (3 : Nat) (Option.none : Option Jvm.ClassFile.FieldType)) ∈ lw_all := lw_g (lw_at lw_m2 8 rfl) rfl
theorem q348 : (Jvm.Cond.methodLink "java/lang/AbstractStringBuilder" (397 : Nat) ({ cls := "java/lang/AbstractStringBuilder", name := "inflateIfNeededFor", desc := "(Ljava/lang/String;)V" } : Jvm.MethodName)) ∈ lw_all := lw_g (lw_at lw_m2 9 rfl) rfl
theorem q349 : (Jvm.Cond.privateMethod ({ cls := "java/lang/AbstractStringBuilder", name := "inflateIfNeededFor", desc := "(Ljava/lang/String;)V" } : Jvm.MethodName)) ∈ lw_tbl := lw_at lw_m2 10 rfl
theorem q350 : (Jvm.Cond.instanceMethod ({ cls := "java/lang/AbstractStringBuilder", name := "inflateIfNeededFor", desc := "(Ljava/lang/String;)V" } : Jvm.MethodName)) ∈ lw_all := lw_g (lw_at lw_m2 11 rfl) rfl
theorem q351 : (Jvm.Cond.code ({ cls := "java/lang/AbstractStringBuilder", name := "inflateIfNeededFor", desc := "(Ljava/lang/String;)V" } : Jvm.MethodName) prog_35_method_71_code (2 : Nat) (Option.none : Option Jvm.ClassFile.FieldType)) ∈ lw_all := lw_g (lw_at lw_m2 12 rfl) rfl
theorem q352 : (Jvm.Cond.methodLink "java/lang/AbstractStringBuilder" (40 : Nat) ({ cls := "java/lang/String", name := "coder", desc := "()B" } : Jvm.MethodName)) ∈ lw_all := lw_g (lw_at lw_m2 13 rfl) rfl
theorem q353 : (Jvm.Cond.methodLink "java/lang/AbstractStringBuilder" (195 : Nat) ({ cls := "java/lang/AbstractStringBuilder", name := "inflate", desc := "()V" } : Jvm.MethodName)) ∈ lw_all := lw_g (lw_at lw_m2 14 rfl) rfl
theorem q354 : (Jvm.Cond.privateMethod ({ cls := "java/lang/AbstractStringBuilder", name := "inflate", desc := "()V" } : Jvm.MethodName)) ∈ lw_tbl := lw_at lw_m2 15 rfl
theorem q355 : (Jvm.Cond.instanceMethod ({ cls := "java/lang/AbstractStringBuilder", name := "inflate", desc := "()V" } : Jvm.MethodName)) ∈ lw_all := lw_g (lw_at lw_m2 16 rfl) rfl
theorem q356 : (Jvm.Cond.code ({ cls := "java/lang/AbstractStringBuilder", name := "inflate", desc := "()V" } : Jvm.MethodName) prog_35_method_11_code (2 : Nat) (Option.none : Option Jvm.ClassFile.FieldType)) ∈ lw_all := lw_g (lw_at lw_m2 17 rfl) rfl
theorem q357 : (Jvm.Cond.methodLink "java/lang/AbstractStringBuilder" (125 : Nat) ({ cls := "java/lang/StringLatin1", name := "inflate", desc := "([BI[BII)V" } : Jvm.MethodName)) ∈ lw_all := lw_g (lw_at lw_m2 18 rfl) rfl
theorem q372 : (Jvm.Cond.methodLink "java/lang/AbstractStringBuilder" (399 : Nat) ({ cls := "java/lang/String", name := "getBytes", desc := "([BIB)V" } : Jvm.MethodName)) ∈ lw_all := lw_g (lw_at lw_m2 33 rfl) rfl
theorem q383 : (Jvm.Cond.instanceMethod ({ cls := "java/lang/AbstractStringBuilder", name := "append", desc := "(I)Ljava/lang/AbstractStringBuilder;" } : Jvm.MethodName)) ∈ lw_all := lw_g (lw_at lw_m2 44 rfl) rfl
theorem q384 : (Jvm.Cond.code ({ cls := "java/lang/AbstractStringBuilder", name := "append", desc := "(I)Ljava/lang/AbstractStringBuilder;" } : Jvm.MethodName) prog_35_method_32_code (4 : Nat) (Option.some (Jvm.ClassFile.FieldType.object "java/lang/AbstractStringBuilder"))) ∈ lw_all := lw_g (lw_at lw_m2 45 rfl) rfl
theorem q385 : (Jvm.Cond.methodLink "java/lang/AbstractStringBuilder" (245 : Nat) ({ cls := "java/lang/Integer", name := "stringSize", desc := "(I)I" } : Jvm.MethodName)) ∈ lw_all := lw_g (lw_at lw_m2 46 rfl) rfl
theorem q388 : (Jvm.Cond.methodLink "java/lang/AbstractStringBuilder" (248 : Nat) ({ cls := "java/lang/Integer", name := "getChars", desc := "(II[B)I" } : Jvm.MethodName)) ∈ lw_all := lw_g (lw_at lw_m2 49 rfl) rfl
theorem q395 : (Jvm.Cond.methodLink "java/lang/AbstractStringBuilder" (251 : Nat) ({ cls := "java/lang/StringUTF16", name := "getChars", desc := "(III[B)I" } : Jvm.MethodName)) ∈ lw_all := lw_g (lw_at lw_m2 56 rfl) rfl
theorem q417 : (Jvm.Cond.instanceMethod ({ cls := "java/lang/AbstractStringBuilder", name := "getValue", desc := "()[B" } : Jvm.MethodName)) ∈ lw_all := lw_g (lw_at lw_m2 78 rfl) rfl
theorem q418 : (Jvm.Cond.sameMethod "java/lang/AbstractStringBuilder" "java/lang/AbstractStringBuilder" "getValue" "()[B") ∈ lw_all := lw_g (lw_at lw_m2 79 rfl) rfl
theorem q420 : (Jvm.Cond.code ({ cls := "java/lang/AbstractStringBuilder", name := "getValue", desc := "()[B" } : Jvm.MethodName) prog_35_method_64_code (1 : Nat) (Option.some (Jvm.ClassFile.FieldType.array Jvm.ClassFile.FieldType.byte))) ∈ lw_all := lw_g (lw_at lw_m2 81 rfl) rfl
theorem q422 : (Jvm.Cond.instanceMethod ({ cls := "java/lang/AbstractStringBuilder", name := "length", desc := "()I" } : Jvm.MethodName)) ∈ lw_all := lw_g (lw_at lw_m2 83 rfl) rfl
theorem q423 : (Jvm.Cond.sameMethod "java/lang/AbstractStringBuilder" "java/lang/AbstractStringBuilder" "length" "()I") ∈ lw_all := lw_g (lw_at lw_m2 84 rfl) rfl
theorem q428 : (Jvm.Cond.code ({ cls := "java/lang/AbstractStringBuilder", name := "length", desc := "()I" } : Jvm.MethodName) prog_35_method_6_code (1 : Nat) (Option.some Jvm.ClassFile.FieldType.int)) ∈ lw_all := lw_g (lw_at lw_m2 89 rfl) rfl
theorem q1027 : (Jvm.Cond.instanceMethod ({ cls := "java/lang/AbstractStringBuilder", name := "append", desc := "(C)Ljava/lang/AbstractStringBuilder;" } : Jvm.MethodName)) ∈ lw_all := lw_g (lw_at lw_m4 208 rfl) rfl
theorem q1028 : (Jvm.Cond.code ({ cls := "java/lang/AbstractStringBuilder", name := "append", desc := "(C)Ljava/lang/AbstractStringBuilder;" } : Jvm.MethodName) prog_35_method_31_code (2 : Nat) (Option.some (Jvm.ClassFile.FieldType.object "java/lang/AbstractStringBuilder"))) ∈ lw_all := lw_g (lw_at lw_m4 209 rfl) rfl
theorem q1029 : (Jvm.Cond.methodLink "java/lang/AbstractStringBuilder" (191 : Nat) ({ cls := "java/lang/StringLatin1", name := "canEncode", desc := "(C)Z" } : Jvm.MethodName)) ∈ lw_all := lw_g (lw_at lw_m4 210 rfl) rfl
theorem q1032 : (Jvm.Cond.methodLink "java/lang/AbstractStringBuilder" (197 : Nat) ({ cls := "java/lang/StringUTF16", name := "putCharSB", desc := "([BII)V" } : Jvm.MethodName)) ∈ lw_all := lw_g (lw_at lw_m4 213 rfl) rfl
theorem q2578 : (Jvm.Cond.sameMethod "java/lang/AbstractStringBuilder" "java/lang/AbstractStringBuilder" "append" "(Ljava/lang/String;)Ljava/lang/AbstractStringBuilder;") ∈ lw_all := lw_g (lw_at lw_m11 79 rfl) rfl
theorem q2579 : (Jvm.Cond.sameMethod "java/lang/AbstractStringBuilder" "java/lang/AbstractStringBuilder" "appendNull" "()Ljava/lang/AbstractStringBuilder;") ∈ lw_all := lw_g (lw_at lw_m11 80 rfl) rfl
theorem q2580 : (Jvm.Cond.sameMethod "java/lang/AbstractStringBuilder" "java/lang/AbstractStringBuilder" "ensureCapacityInternal" "(I)V") ∈ lw_all := lw_g (lw_at lw_m11 81 rfl) rfl
theorem q2581 : (Jvm.Cond.sameMethod "java/lang/AbstractStringBuilder" "java/lang/AbstractStringBuilder" "newCapacity" "(I)I") ∈ lw_all := lw_g (lw_at lw_m11 82 rfl) rfl
theorem q2582 : (Jvm.Cond.sameMethod "java/lang/AbstractStringBuilder" "java/lang/AbstractStringBuilder" "putStringAt" "(ILjava/lang/String;)V") ∈ lw_all := lw_g (lw_at lw_m11 83 rfl) rfl
theorem q2583 : (Jvm.Cond.sameMethod "java/lang/AbstractStringBuilder" "java/lang/AbstractStringBuilder" "inflateIfNeededFor" "(Ljava/lang/String;)V") ∈ lw_all := lw_g (lw_at lw_m11 84 rfl) rfl
theorem q2584 : (Jvm.Cond.sameMethod "java/lang/AbstractStringBuilder" "java/lang/AbstractStringBuilder" "inflate" "()V") ∈ lw_all := lw_g (lw_at lw_m11 85 rfl) rfl
theorem q2585 : (Jvm.Cond.sameMethod "java/lang/AbstractStringBuilder" "java/lang/AbstractStringBuilder" "append" "(I)Ljava/lang/AbstractStringBuilder;") ∈ lw_all := lw_g (lw_at lw_m11 86 rfl) rfl
theorem q2592 : (Jvm.Cond.sameMethod "java/lang/AbstractStringBuilder" "java/lang/AbstractStringBuilder" "append" "(C)Ljava/lang/AbstractStringBuilder;") ∈ lw_all := lw_g (lw_at lw_m11 93 rfl) rfl
/-! java/lang/StringBuilder -/
def RJ8 : String := "java/lang/StringBuilder"
def TJ8 : u_T := fun k => match k with
  | 0 => ("java/lang/AbstractStringBuilder", "value", "[B", false)
  | 1 => ("java/lang/AbstractStringBuilder", "coder", "B", false)
  | 2 => ("java/lang/AbstractStringBuilder", "maybeLatin1", "Z", false)
  | _ => ("java/lang/AbstractStringBuilder", "count", "I", false)
def tyJ8 : Nat → FieldType := fun k => match k with
  | 0 => .array .byte
  | 1 => .byte
  | 2 => .boolean
  | _ => .int
abbrev wsJ80 : List Cond := u_ws RJ8 TJ8 4
theorem nmJ8 : ∀ a, a < 4 → ∀ b, b < 4 → a ≠ b → (TJ8 a).2.1 ≠ (TJ8 b).2.1 := by decide +kernel
theorem tyJ8_ok : ∀ k, k < 4 → parseFieldDescriptor (TJ8 k).2.2.1 = some (tyJ8 k) := by decide +kernel
abbrev cJ8_init : ByteArray := prog_48_method_1_code
def yJ8_init : MethodName := ⟨RJ8, "<init>", "()V"⟩
abbrev cJ8_append : ByteArray := prog_48_method_7_code
def yJ8_append : MethodName := ⟨RJ8, "append", "(Ljava/lang/String;)Ljava/lang/StringBuilder;"⟩
abbrev cJ8_append_2 : ByteArray := prog_48_method_15_code
def yJ8_append_2 : MethodName := ⟨RJ8, "append", "(I)Ljava/lang/StringBuilder;"⟩
abbrev cJ8_toString : ByteArray := prog_48_method_42_code
def yJ8_toString : MethodName := ⟨RJ8, "toString", "()Ljava/lang/String;"⟩
abbrev cJ8_length : ByteArray := prog_48_method_93_code
def yJ8_length : MethodName := ⟨RJ8, "length", "()I"⟩
abbrev cJ8_append_3 : ByteArray := prog_48_method_14_code
def yJ8_append_3 : MethodName := ⟨RJ8, "append", "(C)Ljava/lang/StringBuilder;"⟩
theorem q110 : (Jvm.Cond.initialized "java/lang/StringBuilder") ∈ lw_all := lw_g (lw_at lw_m1 11 rfl) rfl
theorem q225 : (Jvm.Cond.instantiable "java/lang/StringBuilder" (4 : Nat)) ∈ lw_all := lw_g (lw_at lw_m1 126 rfl) rfl
theorem q227 : (Jvm.Cond.instanceMethod ({ cls := "java/lang/StringBuilder", name := "<init>", desc := "()V" } : Jvm.MethodName)) ∈ lw_all := lw_g (lw_at lw_m1 128 rfl) rfl
theorem q228 : (Jvm.Cond.code ({ cls := "java/lang/StringBuilder", name := "<init>", desc := "()V" } : Jvm.MethodName) prog_48_method_1_code (1 : Nat) (Option.none : Option Jvm.ClassFile.FieldType)) ∈ lw_all := lw_g (lw_at lw_m1 129 rfl) rfl
theorem q229 : (Jvm.Cond.methodLink "java/lang/StringBuilder" (1 : Nat) ({ cls := "java/lang/AbstractStringBuilder", name := "<init>", desc := "(I)V" } : Jvm.MethodName)) ∈ lw_all := lw_g (lw_at lw_m1 130 rfl) rfl
theorem q246 : (Jvm.Cond.lays "java/lang/StringBuilder" "java/lang/AbstractStringBuilder" "value" "[B") ∈ lw_all := lw_g (lw_at lw_m1 147 rfl) rfl
theorem q248 : (Jvm.Cond.lays "java/lang/StringBuilder" "java/lang/AbstractStringBuilder" "coder" "B") ∈ lw_all := lw_g (lw_at lw_m1 149 rfl) rfl
theorem q250 : (Jvm.Cond.lays "java/lang/StringBuilder" "java/lang/AbstractStringBuilder" "maybeLatin1" "Z") ∈ lw_all := lw_g (lw_at lw_m1 151 rfl) rfl
theorem q252 : (Jvm.Cond.lays "java/lang/StringBuilder" "java/lang/AbstractStringBuilder" "count" "I") ∈ lw_all := lw_g (lw_at lw_m1 153 rfl) rfl
theorem q254 : (Jvm.Cond.superclass "java/lang/StringBuilder" "java/lang/AbstractStringBuilder") ∈ lw_all := lw_g (lw_at lw_m1 155 rfl) rfl
theorem q259 : (Jvm.Cond.instanceMethod ({ cls := "java/lang/StringBuilder", name := "append", desc := "(Ljava/lang/String;)Ljava/lang/StringBuilder;" } : Jvm.MethodName)) ∈ lw_all := lw_g (lw_at lw_m1 160 rfl) rfl
theorem q260 : (Jvm.Cond.selects "java/lang/StringBuilder" ({ cls := "java/lang/StringBuilder", name := "append", desc := "(Ljava/lang/String;)Ljava/lang/StringBuilder;" } : Jvm.MethodName) ({ cls := "java/lang/StringBuilder", name := "append", desc := "(Ljava/lang/String;)Ljava/lang/StringBuilder;" } : Jvm.MethodName)) ∈ lw_all := lw_g (lw_at lw_m1 161 rfl) rfl
theorem q261 : (Jvm.Cond.code ({ cls := "java/lang/StringBuilder", name := "append", desc := "(Ljava/lang/String;)Ljava/lang/StringBuilder;" } : Jvm.MethodName) prog_48_method_7_code (2 : Nat) (Option.some (Jvm.ClassFile.FieldType.object "java/lang/StringBuilder"))) ∈ lw_all := lw_g (lw_at lw_m1 162 rfl) rfl
theorem q262 : (Jvm.Cond.methodLink "java/lang/StringBuilder" (29 : Nat) ({ cls := "java/lang/AbstractStringBuilder", name := "append", desc := "(Ljava/lang/String;)Ljava/lang/AbstractStringBuilder;" } : Jvm.MethodName)) ∈ lw_all := lw_g (lw_at lw_m1 163 rfl) rfl
theorem q307 : (Jvm.Cond.selects "java/lang/StringBuilder" ({ cls := "java/lang/AbstractStringBuilder", name := "isLatin1", desc := "()Z" } : Jvm.MethodName) ({ cls := "java/lang/AbstractStringBuilder", name := "isLatin1", desc := "()Z" } : Jvm.MethodName)) ∈ lw_all := lw_g (lw_at lw_m1 208 rfl) rfl
theorem q379 : (Jvm.Cond.instanceMethod ({ cls := "java/lang/StringBuilder", name := "append", desc := "(I)Ljava/lang/StringBuilder;" } : Jvm.MethodName)) ∈ lw_all := lw_g (lw_at lw_m2 40 rfl) rfl
theorem q380 : (Jvm.Cond.selects "java/lang/StringBuilder" ({ cls := "java/lang/StringBuilder", name := "append", desc := "(I)Ljava/lang/StringBuilder;" } : Jvm.MethodName) ({ cls := "java/lang/StringBuilder", name := "append", desc := "(I)Ljava/lang/StringBuilder;" } : Jvm.MethodName)) ∈ lw_all := lw_g (lw_at lw_m2 41 rfl) rfl
theorem q381 : (Jvm.Cond.code ({ cls := "java/lang/StringBuilder", name := "append", desc := "(I)Ljava/lang/StringBuilder;" } : Jvm.MethodName) prog_48_method_15_code (2 : Nat) (Option.some (Jvm.ClassFile.FieldType.object "java/lang/StringBuilder"))) ∈ lw_all := lw_g (lw_at lw_m2 42 rfl) rfl
theorem q382 : (Jvm.Cond.methodLink "java/lang/StringBuilder" (53 : Nat) ({ cls := "java/lang/AbstractStringBuilder", name := "append", desc := "(I)Ljava/lang/AbstractStringBuilder;" } : Jvm.MethodName)) ∈ lw_all := lw_g (lw_at lw_m2 43 rfl) rfl
theorem q404 : (Jvm.Cond.instanceMethod ({ cls := "java/lang/StringBuilder", name := "toString", desc := "()Ljava/lang/String;" } : Jvm.MethodName)) ∈ lw_all := lw_g (lw_at lw_m2 65 rfl) rfl
theorem q405 : (Jvm.Cond.selects "java/lang/StringBuilder" ({ cls := "java/lang/StringBuilder", name := "toString", desc := "()Ljava/lang/String;" } : Jvm.MethodName) ({ cls := "java/lang/StringBuilder", name := "toString", desc := "()Ljava/lang/String;" } : Jvm.MethodName)) ∈ lw_all := lw_g (lw_at lw_m2 66 rfl) rfl
theorem q406 : (Jvm.Cond.code ({ cls := "java/lang/StringBuilder", name := "toString", desc := "()Ljava/lang/String;" } : Jvm.MethodName) prog_48_method_42_code (1 : Nat) (Option.some (Jvm.ClassFile.FieldType.object "java/lang/String"))) ∈ lw_all := lw_g (lw_at lw_m2 67 rfl) rfl
theorem q407 : (Jvm.Cond.classLink "java/lang/StringBuilder" (18 : Nat) "java/lang/String") ∈ lw_all := lw_g (lw_at lw_m2 68 rfl) rfl
theorem q409 : (Jvm.Cond.methodLink "java/lang/StringBuilder" (137 : Nat) ({ cls := "java/lang/String", name := "<init>", desc := "(Ljava/lang/StringBuilder;)V" } : Jvm.MethodName)) ∈ lw_all := lw_g (lw_at lw_m2 70 rfl) rfl
theorem q419 : (Jvm.Cond.selects "java/lang/StringBuilder" ({ cls := "java/lang/AbstractStringBuilder", name := "getValue", desc := "()[B" } : Jvm.MethodName) ({ cls := "java/lang/AbstractStringBuilder", name := "getValue", desc := "()[B" } : Jvm.MethodName)) ∈ lw_all := lw_g (lw_at lw_m2 80 rfl) rfl
theorem q424 : (Jvm.Cond.selects "java/lang/StringBuilder" ({ cls := "java/lang/AbstractStringBuilder", name := "length", desc := "()I" } : Jvm.MethodName) ({ cls := "java/lang/StringBuilder", name := "length", desc := "()I" } : Jvm.MethodName)) ∈ lw_all := lw_g (lw_at lw_m2 85 rfl) rfl
theorem q425 : (Jvm.Cond.instanceMethod ({ cls := "java/lang/StringBuilder", name := "length", desc := "()I" } : Jvm.MethodName)) ∈ lw_all := lw_g (lw_at lw_m2 86 rfl) rfl
theorem q426 : (Jvm.Cond.code ({ cls := "java/lang/StringBuilder", name := "length", desc := "()I" } : Jvm.MethodName) prog_48_method_93_code (1 : Nat) (Option.some Jvm.ClassFile.FieldType.int)) ∈ lw_all := lw_g (lw_at lw_m2 87 rfl) rfl
theorem q427 : (Jvm.Cond.methodLink "java/lang/StringBuilder" (343 : Nat) ({ cls := "java/lang/AbstractStringBuilder", name := "length", desc := "()I" } : Jvm.MethodName)) ∈ lw_all := lw_g (lw_at lw_m2 88 rfl) rfl
theorem q1023 : (Jvm.Cond.instanceMethod ({ cls := "java/lang/StringBuilder", name := "append", desc := "(C)Ljava/lang/StringBuilder;" } : Jvm.MethodName)) ∈ lw_all := lw_g (lw_at lw_m4 204 rfl) rfl
theorem q1024 : (Jvm.Cond.selects "java/lang/StringBuilder" ({ cls := "java/lang/StringBuilder", name := "append", desc := "(C)Ljava/lang/StringBuilder;" } : Jvm.MethodName) ({ cls := "java/lang/StringBuilder", name := "append", desc := "(C)Ljava/lang/StringBuilder;" } : Jvm.MethodName)) ∈ lw_all := lw_g (lw_at lw_m4 205 rfl) rfl
theorem q1025 : (Jvm.Cond.code ({ cls := "java/lang/StringBuilder", name := "append", desc := "(C)Ljava/lang/StringBuilder;" } : Jvm.MethodName) prog_48_method_14_code (2 : Nat) (Option.some (Jvm.ClassFile.FieldType.object "java/lang/StringBuilder"))) ∈ lw_all := lw_g (lw_at lw_m4 206 rfl) rfl
theorem q1026 : (Jvm.Cond.methodLink "java/lang/StringBuilder" (50 : Nat) ({ cls := "java/lang/AbstractStringBuilder", name := "append", desc := "(C)Ljava/lang/AbstractStringBuilder;" } : Jvm.MethodName)) ∈ lw_all := lw_g (lw_at lw_m4 207 rfl) rfl
theorem q1252 : (Jvm.Cond.selects "java/lang/StringBuilder" ({ cls := "java/lang/Object", name := "getClass", desc := "()Ljava/lang/Class;" } : Jvm.MethodName) ({ cls := "java/lang/Object", name := "getClass", desc := "()Ljava/lang/Class;" } : Jvm.MethodName)) ∈ lw_all := lw_g (lw_at lw_m5 193 rfl) rfl
theorem q2591 : (Jvm.Cond.selects "java/lang/StringBuilder" ({ cls := "java/lang/StringBuilder", name := "length", desc := "()I" } : Jvm.MethodName) ({ cls := "java/lang/StringBuilder", name := "length", desc := "()I" } : Jvm.MethodName)) ∈ lw_all := lw_g (lw_at lw_m11 92 rfl) rfl
theorem q2611 : (Jvm.Cond.castable "java/lang/StringBuilder" "java/lang/Object") ∈ lw_tbl := lw_at lw_m11 112 rfl
theorem in_J8 : ∀ w ∈ wsJ80, w ∈ lw_all := lw_in wsJ80 [246, 248, 250, 252] (by decide +kernel) (by decide +kernel)
/-! java/lang/String -/
def RJ9 : String := "java/lang/String"
def TJ9 : u_T := fun k => match k with
  | 0 => ("java/lang/String", "value", "[B", true)
  | 1 => ("java/lang/String", "coder", "B", true)
  | 2 => ("java/lang/String", "hash", "I", false)
  | _ => ("java/lang/String", "hashIsZero", "Z", false)
def tyJ9 : Nat → FieldType := fun k => match k with
  | 0 => .array .byte
  | 1 => .byte
  | 2 => .int
  | _ => .boolean
abbrev wsJ90 : List Cond := u_ws RJ9 TJ9 4
theorem nmJ9 : ∀ a, a < 4 → ∀ b, b < 4 → a ≠ b → (TJ9 a).2.1 ≠ (TJ9 b).2.1 := by decide +kernel
theorem tyJ9_ok : ∀ k, k < 4 → parseFieldDescriptor (TJ9 k).2.2.1 = some (tyJ9 k) := by decide +kernel
abbrev cJ9_checkBoundsBeginEnd : ByteArray := prog_47_method_158_code
def yJ9_checkBoundsBeginEnd : MethodName := ⟨RJ9, "checkBoundsBeginEnd", "(III)V"⟩
abbrev cJ9_length : ByteArray := prog_47_method_54_code
def yJ9_length : MethodName := ⟨RJ9, "length", "()I"⟩
abbrev cJ9_coder : ByteArray := prog_47_method_152_code
def yJ9_coder : MethodName := ⟨RJ9, "coder", "()B"⟩
abbrev cJ9_checkBoundsOffCount : ByteArray := prog_47_method_157_code
def yJ9_checkBoundsOffCount : MethodName := ⟨RJ9, "checkBoundsOffCount", "(III)I"⟩
abbrev cJ9_getBytes : ByteArray := prog_47_method_147_code
def yJ9_getBytes : MethodName := ⟨RJ9, "getBytes", "([BIB)V"⟩
abbrev cJ9_init : ByteArray := prog_47_method_53_code
def yJ9_init : MethodName := ⟨RJ9, "<init>", "(Ljava/lang/StringBuilder;)V"⟩
abbrev cJ9_init_2 : ByteArray := prog_47_method_150_code
def yJ9_init_2 : MethodName := ⟨RJ9, "<init>", "(Ljava/lang/AbstractStringBuilder;Ljava/lang/Void;)V"⟩
abbrev cJ9_checkIndex : ByteArray := prog_47_method_155_code
def yJ9_checkIndex : MethodName := ⟨RJ9, "checkIndex", "(II)V"⟩
abbrev cJ9_hashCode : ByteArray := prog_47_method_78_code
def yJ9_hashCode : MethodName := ⟨RJ9, "hashCode", "()I"⟩
abbrev cJ9_isLatin1 : ByteArray := prog_47_method_154_code
def yJ9_isLatin1 : MethodName := ⟨RJ9, "isLatin1", "()Z"⟩
abbrev cJ9_equals : ByteArray := prog_47_method_66_code
def yJ9_equals : MethodName := ⟨RJ9, "equals", "(Ljava/lang/Object;)Z"⟩
theorem q111 : (Jvm.Cond.initialized "java/lang/String") ∈ lw_all := lw_g (lw_at lw_m1 12 rfl) rfl
theorem q234 : (Jvm.Cond.laysStatic "java/lang/String" "COMPACT_STRINGS" "Z") ∈ lw_tbl := lw_at lw_m1 135 rfl
theorem q244 : (Jvm.Cond.fieldLink "java/lang/String" (1048 : Nat) "java/lang/AbstractStringBuilder" "maybeLatin1" "Z") ∈ lw_all := lw_g (lw_at lw_m1 145 rfl) rfl
theorem q319 : (Jvm.Cond.static ({ cls := "java/lang/String", name := "checkBoundsBeginEnd", desc := "(III)V" } : Jvm.MethodName)) ∈ lw_all := lw_g (lw_at lw_m1 220 rfl) rfl
theorem q320 : (Jvm.Cond.code ({ cls := "java/lang/String", name := "checkBoundsBeginEnd", desc := "(III)V" } : Jvm.MethodName) prog_47_method_158_code (3 : Nat) (Option.none : Option Jvm.ClassFile.FieldType)) ∈ lw_all := lw_g (lw_at lw_m1 221 rfl) rfl
theorem q321 : (Jvm.Cond.fieldLink "java/lang/String" (1053 : Nat) "jdk/internal/util/Preconditions" "SIOOBE_FORMATTER" "Ljava/util/function/BiFunction;") ∈ lw_all := lw_g (lw_at lw_m1 222 rfl) rfl
theorem q323 : (Jvm.Cond.methodLink "java/lang/String" (1062 : Nat) ({ cls := "jdk/internal/util/Preconditions", name := "checkFromToIndex", desc := "(IIILjava/util/function/BiFunction;)I" } : Jvm.MethodName)) ∈ lw_all := lw_g (lw_at lw_m1 224 rfl) rfl
theorem q336 : (Jvm.Cond.instanceMethod ({ cls := "java/lang/String", name := "length", desc := "()I" } : Jvm.MethodName)) ∈ lw_all := lw_g (lw_at lw_m1 237 rfl) rfl
theorem q337 : (Jvm.Cond.selects "java/lang/String" ({ cls := "java/lang/String", name := "length", desc := "()I" } : Jvm.MethodName) ({ cls := "java/lang/String", name := "length", desc := "()I" } : Jvm.MethodName)) ∈ lw_all := lw_g (lw_at lw_m1 238 rfl) rfl
theorem q338 : (Jvm.Cond.code ({ cls := "java/lang/String", name := "length", desc := "()I" } : Jvm.MethodName) prog_47_method_54_code (1 : Nat) (Option.some Jvm.ClassFile.FieldType.int)) ∈ lw_all := lw_g (lw_at lw_m1 239 rfl) rfl
theorem q339 : (Jvm.Cond.methodLink "java/lang/String" (335 : Nat) ({ cls := "java/lang/String", name := "coder", desc := "()B" } : Jvm.MethodName)) ∈ lw_all := lw_g (lw_at lw_m2 0 rfl) rfl
theorem q340 : (Jvm.Cond.instanceMethod ({ cls := "java/lang/String", name := "coder", desc := "()B" } : Jvm.MethodName)) ∈ lw_all := lw_g (lw_at lw_m2 1 rfl) rfl
theorem q341 : (Jvm.Cond.selects "java/lang/String" ({ cls := "java/lang/String", name := "coder", desc := "()B" } : Jvm.MethodName) ({ cls := "java/lang/String", name := "coder", desc := "()B" } : Jvm.MethodName)) ∈ lw_all := lw_g (lw_at lw_m2 2 rfl) rfl
theorem q342 : (Jvm.Cond.code ({ cls := "java/lang/String", name := "coder", desc := "()B" } : Jvm.MethodName) prog_47_method_152_code (1 : Nat) (Option.some Jvm.ClassFile.FieldType.byte)) ∈ lw_all := lw_g (lw_at lw_m2 3 rfl) rfl
theorem q343 : (Jvm.Cond.fieldLink "java/lang/String" (38 : Nat) "java/lang/String" "COMPACT_STRINGS" "Z") ∈ lw_all := lw_g (lw_at lw_m2 4 rfl) rfl
theorem q367 : (Jvm.Cond.static ({ cls := "java/lang/String", name := "checkBoundsOffCount", desc := "(III)I" } : Jvm.MethodName)) ∈ lw_all := lw_g (lw_at lw_m2 28 rfl) rfl
theorem q368 : (Jvm.Cond.code ({ cls := "java/lang/String", name := "checkBoundsOffCount", desc := "(III)I" } : Jvm.MethodName) prog_47_method_157_code (3 : Nat) (Option.some Jvm.ClassFile.FieldType.int)) ∈ lw_all := lw_g (lw_at lw_m2 29 rfl) rfl
theorem q369 : (Jvm.Cond.methodLink "java/lang/String" (1065 : Nat) ({ cls := "jdk/internal/util/Preconditions", name := "checkFromIndexSize", desc := "(IIILjava/util/function/BiFunction;)I" } : Jvm.MethodName)) ∈ lw_all := lw_g (lw_at lw_m2 30 rfl) rfl
theorem q373 : (Jvm.Cond.instanceMethod ({ cls := "java/lang/String", name := "getBytes", desc := "([BIB)V" } : Jvm.MethodName)) ∈ lw_all := lw_g (lw_at lw_m2 34 rfl) rfl
theorem q374 : (Jvm.Cond.selects "java/lang/String" ({ cls := "java/lang/String", name := "getBytes", desc := "([BIB)V" } : Jvm.MethodName) ({ cls := "java/lang/String", name := "getBytes", desc := "([BIB)V" } : Jvm.MethodName)) ∈ lw_all := lw_g (lw_at lw_m2 35 rfl) rfl
theorem q375 : (Jvm.Cond.code ({ cls := "java/lang/String", name := "getBytes", desc := "([BIB)V" } : Jvm.MethodName) prog_47_method_147_code (4 : Nat) (Option.none : Option Jvm.ClassFile.FieldType)) ∈ lw_all := lw_g (lw_at lw_m2 36 rfl) rfl
theorem q376 : (Jvm.Cond.methodLink "java/lang/String" (212 : Nat) ({ cls := "java/lang/System", name := "arraycopy", desc := "(Ljava/lang/Object;ILjava/lang/Object;II)V" } : Jvm.MethodName)) ∈ lw_all := lw_g (lw_at lw_m2 37 rfl) rfl
theorem q377 : (Jvm.Cond.methodLink "java/lang/String" (106 : Nat) ({ cls := "java/lang/StringLatin1", name := "inflate", desc := "([BI[BII)V" } : Jvm.MethodName)) ∈ lw_all := lw_g (lw_at lw_m2 38 rfl) rfl
theorem q408 : (Jvm.Cond.instantiable "java/lang/String" (4 : Nat)) ∈ lw_all := lw_g (lw_at lw_m2 69 rfl) rfl
theorem q410 : (Jvm.Cond.instanceMethod ({ cls := "java/lang/String", name := "<init>", desc := "(Ljava/lang/StringBuilder;)V" } : Jvm.MethodName)) ∈ lw_all := lw_g (lw_at lw_m2 71 rfl) rfl
theorem q411 : (Jvm.Cond.code ({ cls := "java/lang/String", name := "<init>", desc := "(Ljava/lang/StringBuilder;)V" } : Jvm.MethodName) prog_47_method_53_code (2 : Nat) (Option.none : Option Jvm.ClassFile.FieldType)) ∈ lw_all := lw_g (lw_at lw_m2 72 rfl) rfl
theorem q412 : (Jvm.Cond.methodLink "java/lang/String" (489 : Nat) ({ cls := "java/lang/String", name := "<init>", desc := "(Ljava/lang/AbstractStringBuilder;Ljava/lang/Void;)V" } : Jvm.MethodName)) ∈ lw_all := lw_g (lw_at lw_m2 73 rfl) rfl
theorem q413 : (Jvm.Cond.instanceMethod ({ cls := "java/lang/String", name := "<init>", desc := "(Ljava/lang/AbstractStringBuilder;Ljava/lang/Void;)V" } : Jvm.MethodName)) ∈ lw_all := lw_g (lw_at lw_m2 74 rfl) rfl
theorem q414 : (Jvm.Cond.code ({ cls := "java/lang/String", name := "<init>", desc := "(Ljava/lang/AbstractStringBuilder;Ljava/lang/Void;)V" } : Jvm.MethodName) prog_47_method_150_code (5 : Nat) (Option.none : Option Jvm.ClassFile.FieldType)) ∈ lw_all := lw_g (lw_at lw_m2 75 rfl) rfl
theorem q415 : (Jvm.Cond.methodLink "java/lang/String" (1 : Nat) ({ cls := "java/lang/Object", name := "<init>", desc := "()V" } : Jvm.MethodName)) ∈ lw_all := lw_g (lw_at lw_m2 76 rfl) rfl
theorem q416 : (Jvm.Cond.methodLink "java/lang/String" (552 : Nat) ({ cls := "java/lang/AbstractStringBuilder", name := "getValue", desc := "()[B" } : Jvm.MethodName)) ∈ lw_all := lw_g (lw_at lw_m2 77 rfl) rfl
theorem q421 : (Jvm.Cond.methodLink "java/lang/String" (549 : Nat) ({ cls := "java/lang/AbstractStringBuilder", name := "length", desc := "()I" } : Jvm.MethodName)) ∈ lw_all := lw_g (lw_at lw_m2 82 rfl) rfl
theorem q429 : (Jvm.Cond.methodLink "java/lang/String" (1047 : Nat) ({ cls := "java/lang/AbstractStringBuilder", name := "isLatin1", desc := "()Z" } : Jvm.MethodName)) ∈ lw_all := lw_g (lw_at lw_m2 90 rfl) rfl
theorem q430 : (Jvm.Cond.methodLink "java/lang/String" (54 : Nat) ({ cls := "java/util/Arrays", name := "copyOfRange", desc := "([BII)[B" } : Jvm.MethodName)) ∈ lw_all := lw_g (lw_at lw_m2 91 rfl) rfl
theorem q471 : (Jvm.Cond.methodLink "java/lang/String" (1051 : Nat) ({ cls := "java/lang/StringUTF16", name := "compress", desc := "([BII)[B" } : Jvm.MethodName)) ∈ lw_all := lw_g (lw_at lw_m2 132 rfl) rfl
theorem q481 : (Jvm.Cond.methodLink "java/lang/String" (47 : Nat) ({ cls := "java/lang/StringUTF16", name := "coderFromArrayLen", desc := "([BI)B" } : Jvm.MethodName)) ∈ lw_all := lw_g (lw_at lw_m2 142 rfl) rfl
theorem q484 : (Jvm.Cond.fieldLink "java/lang/String" (9 : Nat) "java/lang/String" "value" "[B") ∈ lw_all := lw_g (lw_at lw_m2 145 rfl) rfl
theorem q485 : (Jvm.Cond.fieldLink "java/lang/String" (15 : Nat) "java/lang/String" "coder" "B") ∈ lw_all := lw_g (lw_at lw_m2 146 rfl) rfl
theorem q486 : (Jvm.Cond.fieldLink "java/lang/String" (19 : Nat) "java/lang/String" "hash" "I") ∈ lw_all := lw_g (lw_at lw_m2 147 rfl) rfl
theorem q487 : (Jvm.Cond.fieldLink "java/lang/String" (23 : Nat) "java/lang/String" "hashIsZero" "Z") ∈ lw_all := lw_g (lw_at lw_m2 148 rfl) rfl
theorem q488 : (Jvm.Cond.laysFinal "java/lang/String" "java/lang/String" "value" "[B") ∈ lw_all := lw_g (lw_at lw_m2 149 rfl) rfl
theorem q489 : (Jvm.Cond.soleField "java/lang/String" "value") ∈ lw_all := lw_g (lw_at lw_m2 150 rfl) rfl
theorem q490 : (Jvm.Cond.laysFinal "java/lang/String" "java/lang/String" "coder" "B") ∈ lw_all := lw_g (lw_at lw_m2 151 rfl) rfl
theorem q491 : (Jvm.Cond.soleField "java/lang/String" "coder") ∈ lw_all := lw_g (lw_at lw_m2 152 rfl) rfl
theorem q492 : (Jvm.Cond.lays "java/lang/String" "java/lang/String" "hash" "I") ∈ lw_all := lw_g (lw_at lw_m2 153 rfl) rfl
theorem q493 : (Jvm.Cond.soleField "java/lang/String" "hash") ∈ lw_all := lw_g (lw_at lw_m2 154 rfl) rfl
theorem q494 : (Jvm.Cond.lays "java/lang/String" "java/lang/String" "hashIsZero" "Z") ∈ lw_all := lw_g (lw_at lw_m2 155 rfl) rfl
theorem q495 : (Jvm.Cond.soleField "java/lang/String" "hashIsZero") ∈ lw_all := lw_g (lw_at lw_m2 156 rfl) rfl
theorem q496 : (Jvm.Cond.superclass "java/lang/String" "java/lang/Object") ∈ lw_all := lw_g (lw_at lw_m2 157 rfl) rfl
theorem q1039 : (Jvm.Cond.static ({ cls := "java/lang/String", name := "checkIndex", desc := "(II)V" } : Jvm.MethodName)) ∈ lw_all := lw_g (lw_at lw_m4 220 rfl) rfl
theorem q1040 : (Jvm.Cond.code ({ cls := "java/lang/String", name := "checkIndex", desc := "(II)V" } : Jvm.MethodName) prog_47_method_155_code (2 : Nat) (Option.none : Option Jvm.ClassFile.FieldType)) ∈ lw_all := lw_g (lw_at lw_m4 221 rfl) rfl
theorem q1041 : (Jvm.Cond.methodLink "java/lang/String" (1059 : Nat) ({ cls := "jdk/internal/util/Preconditions", name := "checkIndex", desc := "(IILjava/util/function/BiFunction;)I" } : Jvm.MethodName)) ∈ lw_all := lw_g (lw_at lw_m4 222 rfl) rfl
theorem q1048 : (Jvm.Cond.instanceMethod ({ cls := "java/lang/String", name := "hashCode", desc := "()I" } : Jvm.MethodName)) ∈ lw_all := lw_g (lw_at lw_m4 229 rfl) rfl
theorem q1049 : (Jvm.Cond.selects "java/lang/String" ({ cls := "java/lang/String", name := "hashCode", desc := "()I" } : Jvm.MethodName) ({ cls := "java/lang/String", name := "hashCode", desc := "()I" } : Jvm.MethodName)) ∈ lw_all := lw_g (lw_at lw_m4 230 rfl) rfl
theorem q1050 : (Jvm.Cond.code ({ cls := "java/lang/String", name := "hashCode", desc := "()I" } : Jvm.MethodName) prog_47_method_78_code (2 : Nat) (Option.some Jvm.ClassFile.FieldType.int)) ∈ lw_all := lw_g (lw_at lw_m4 231 rfl) rfl
theorem q1051 : (Jvm.Cond.methodLink "java/lang/String" (492 : Nat) ({ cls := "java/lang/String", name := "isLatin1", desc := "()Z" } : Jvm.MethodName)) ∈ lw_all := lw_g (lw_at lw_m4 232 rfl) rfl
theorem q1052 : (Jvm.Cond.instanceMethod ({ cls := "java/lang/String", name := "isLatin1", desc := "()Z" } : Jvm.MethodName)) ∈ lw_all := lw_g (lw_at lw_m4 233 rfl) rfl
theorem q1053 : (Jvm.Cond.selects "java/lang/String" ({ cls := "java/lang/String", name := "isLatin1", desc := "()Z" } : Jvm.MethodName) ({ cls := "java/lang/String", name := "isLatin1", desc := "()Z" } : Jvm.MethodName)) ∈ lw_all := lw_g (lw_at lw_m4 234 rfl) rfl
theorem q1054 : (Jvm.Cond.code ({ cls := "java/lang/String", name := "isLatin1", desc := "()Z" } : Jvm.MethodName) prog_47_method_154_code (1 : Nat) (Option.some Jvm.ClassFile.FieldType.boolean)) ∈ lw_all := lw_g (lw_at lw_m4 235 rfl) rfl
theorem q1055 : (Jvm.Cond.methodLink "java/lang/String" (628 : Nat) ({ cls := "java/lang/StringLatin1", name := "hashCode", desc := "([B)I" } : Jvm.MethodName)) ∈ lw_all := lw_g (lw_at lw_m4 236 rfl) rfl
theorem q1104 : (Jvm.Cond.methodLink "java/lang/String" (632 : Nat) ({ cls := "java/lang/StringUTF16", name := "hashCode", desc := "([B)I" } : Jvm.MethodName)) ∈ lw_all := lw_g (lw_at lw_m5 45 rfl) rfl
theorem q1110 : (Jvm.Cond.instanceMethod ({ cls := "java/lang/String", name := "equals", desc := "(Ljava/lang/Object;)Z" } : Jvm.MethodName)) ∈ lw_all := lw_g (lw_at lw_m5 51 rfl) rfl
theorem q1111 : (Jvm.Cond.selects "java/lang/String" ({ cls := "java/lang/String", name := "equals", desc := "(Ljava/lang/Object;)Z" } : Jvm.MethodName) ({ cls := "java/lang/String", name := "equals", desc := "(Ljava/lang/Object;)Z" } : Jvm.MethodName)) ∈ lw_all := lw_g (lw_at lw_m5 52 rfl) rfl
theorem q1112 : (Jvm.Cond.code ({ cls := "java/lang/String", name := "equals", desc := "(Ljava/lang/Object;)Z" } : Jvm.MethodName) prog_47_method_66_code (3 : Nat) (Option.some Jvm.ClassFile.FieldType.boolean)) ∈ lw_all := lw_g (lw_at lw_m5 53 rfl) rfl
theorem q1113 : (Jvm.Cond.classLink "java/lang/String" (10 : Nat) "java/lang/String") ∈ lw_all := lw_g (lw_at lw_m5 54 rfl) rfl
theorem q1114 : (Jvm.Cond.methodLink "java/lang/String" (541 : Nat) ({ cls := "java/lang/StringLatin1", name := "equals", desc := "([B[B)Z" } : Jvm.MethodName)) ∈ lw_all := lw_g (lw_at lw_m5 55 rfl) rfl
theorem q1251 : (Jvm.Cond.selects "java/lang/String" ({ cls := "java/lang/Object", name := "getClass", desc := "()Ljava/lang/Class;" } : Jvm.MethodName) ({ cls := "java/lang/Object", name := "getClass", desc := "()Ljava/lang/Class;" } : Jvm.MethodName)) ∈ lw_all := lw_g (lw_at lw_m5 192 rfl) rfl
theorem q2612 : (Jvm.Cond.castable "java/lang/String" "java/lang/Object") ∈ lw_tbl := lw_at lw_m11 113 rfl
theorem in_J9 : ∀ w ∈ wsJ90, w ∈ lw_all := lw_in wsJ90 [488, 490, 492, 494] (by decide +kernel) (by decide +kernel)
/-! java/lang/StringUTF16 -/
def RJ10 : String := "java/lang/StringUTF16"
abbrev cJ10_newBytesFor : ByteArray := prog_50_method_2_code
def yJ10_newBytesFor : MethodName := ⟨RJ10, "newBytesFor", "(I)[B"⟩
abbrev cJ10_newBytesLength : ByteArray := prog_50_method_3_code
def yJ10_newBytesLength : MethodName := ⟨RJ10, "newBytesLength", "(I)I"⟩
abbrev cJ10_putCharsAt : ByteArray := prog_50_method_81_code
def yJ10_putCharsAt : MethodName := ⟨RJ10, "putCharsAt", "([BICCCC)I"⟩
abbrev cJ10_checkBoundsBeginEnd : ByteArray := prog_50_method_93_code
def yJ10_checkBoundsBeginEnd : MethodName := ⟨RJ10, "checkBoundsBeginEnd", "(II[B)V"⟩
abbrev cJ10_length : ByteArray := prog_50_method_6_code
def yJ10_length : MethodName := ⟨RJ10, "length", "([B)I"⟩
abbrev cJ10_putChar : ByteArray := prog_50_method_4_code
def yJ10_putChar : MethodName := ⟨RJ10, "putChar", "([BII)V"⟩
abbrev cJ10_inflate : ByteArray := prog_50_method_86_code
def yJ10_inflate : MethodName := ⟨RJ10, "inflate", "([BI[BII)V"⟩
abbrev cJ10_checkBoundsOffCount : ByteArray := prog_50_method_94_code
def yJ10_checkBoundsOffCount : MethodName := ⟨RJ10, "checkBoundsOffCount", "(II[B)V"⟩
abbrev cJ10_getChars : ByteArray := prog_50_method_77_code
def yJ10_getChars : MethodName := ⟨RJ10, "getChars", "(III[B)I"⟩
abbrev cJ10_getChars_2 : ByteArray := prog_50_method_89_code
def yJ10_getChars_2 : MethodName := ⟨RJ10, "getChars", "(II[B)I"⟩
abbrev cJ10_compress : ByteArray := prog_50_method_17_code
def yJ10_compress : MethodName := ⟨RJ10, "compress", "([BII)[B"⟩
abbrev cJ10_compress_2 : ByteArray := prog_50_method_22_code
def yJ10_compress_2 : MethodName := ⟨RJ10, "compress", "([BI[BII)I"⟩
abbrev cJ10_getChar : ByteArray := prog_50_method_5_code
def yJ10_getChar : MethodName := ⟨RJ10, "getChar", "([BI)C"⟩
abbrev cJ10_coderFromArrayLen : ByteArray := prog_50_method_15_code
def yJ10_coderFromArrayLen : MethodName := ⟨RJ10, "coderFromArrayLen", "([BI)B"⟩
abbrev cJ10_putCharSB : ByteArray := prog_50_method_71_code
def yJ10_putCharSB : MethodName := ⟨RJ10, "putCharSB", "([BII)V"⟩
abbrev cJ10_checkIndex : ByteArray := prog_50_method_91_code
def yJ10_checkIndex : MethodName := ⟨RJ10, "checkIndex", "(I[B)V"⟩
abbrev cJ10_hashCode : ByteArray := prog_50_method_39_code
def yJ10_hashCode : MethodName := ⟨RJ10, "hashCode", "([B)I"⟩
theorem q112 : (Jvm.Cond.initialized "java/lang/StringUTF16") ∈ lw_all := lw_g (lw_at lw_m1 13 rfl) rfl
theorem q236 : (Jvm.Cond.static ({ cls := "java/lang/StringUTF16", name := "newBytesFor", desc := "(I)[B" } : Jvm.MethodName)) ∈ lw_all := lw_g (lw_at lw_m1 137 rfl) rfl
theorem q237 : (Jvm.Cond.code ({ cls := "java/lang/StringUTF16", name := "newBytesFor", desc := "(I)[B" } : Jvm.MethodName) prog_50_method_2_code (1 : Nat) (Option.some (Jvm.ClassFile.FieldType.array Jvm.ClassFile.FieldType.byte))) ∈ lw_all := lw_g (lw_at lw_m1 138 rfl) rfl
theorem q238 : (Jvm.Cond.methodLink "java/lang/StringUTF16" (11 : Nat) ({ cls := "java/lang/StringUTF16", name := "newBytesLength", desc := "(I)I" } : Jvm.MethodName)) ∈ lw_all := lw_g (lw_at lw_m1 139 rfl) rfl
theorem q239 : (Jvm.Cond.static ({ cls := "java/lang/StringUTF16", name := "newBytesLength", desc := "(I)I" } : Jvm.MethodName)) ∈ lw_all := lw_g (lw_at lw_m1 140 rfl) rfl
theorem q240 : (Jvm.Cond.code ({ cls := "java/lang/StringUTF16", name := "newBytesLength", desc := "(I)I" } : Jvm.MethodName) prog_50_method_3_code (1 : Nat) (Option.some Jvm.ClassFile.FieldType.int)) ∈ lw_all := lw_g (lw_at lw_m1 141 rfl) rfl
theorem q241 : (Jvm.Cond.constant "java/lang/StringUTF16" (20 : Nat) (1073741823 : Int32)) ∈ lw_all := lw_g (lw_at lw_m1 142 rfl) rfl
theorem q310 : (Jvm.Cond.static ({ cls := "java/lang/StringUTF16", name := "putCharsAt", desc := "([BICCCC)I" } : Jvm.MethodName)) ∈ lw_all := lw_g (lw_at lw_m1 211 rfl) rfl
theorem q311 : (Jvm.Cond.code ({ cls := "java/lang/StringUTF16", name := "putCharsAt", desc := "([BICCCC)I" } : Jvm.MethodName) prog_50_method_81_code (7 : Nat) (Option.some Jvm.ClassFile.FieldType.int)) ∈ lw_all := lw_g (lw_at lw_m1 212 rfl) rfl
theorem q312 : (Jvm.Cond.methodLink "java/lang/StringUTF16" (96 : Nat) ({ cls := "java/lang/StringUTF16", name := "checkBoundsBeginEnd", desc := "(II[B)V" } : Jvm.MethodName)) ∈ lw_all := lw_g (lw_at lw_m1 213 rfl) rfl
theorem q313 : (Jvm.Cond.static ({ cls := "java/lang/StringUTF16", name := "checkBoundsBeginEnd", desc := "(II[B)V" } : Jvm.MethodName)) ∈ lw_all := lw_g (lw_at lw_m1 214 rfl) rfl
theorem q314 : (Jvm.Cond.code ({ cls := "java/lang/StringUTF16", name := "checkBoundsBeginEnd", desc := "(II[B)V" } : Jvm.MethodName) prog_50_method_93_code (3 : Nat) (Option.none : Option Jvm.ClassFile.FieldType)) ∈ lw_all := lw_g (lw_at lw_m1 215 rfl) rfl
theorem q315 : (Jvm.Cond.methodLink "java/lang/StringUTF16" (48 : Nat) ({ cls := "java/lang/StringUTF16", name := "length", desc := "([B)I" } : Jvm.MethodName)) ∈ lw_all := lw_g (lw_at lw_m1 216 rfl) rfl
theorem q316 : (Jvm.Cond.static ({ cls := "java/lang/StringUTF16", name := "length", desc := "([B)I" } : Jvm.MethodName)) ∈ lw_all := lw_g (lw_at lw_m1 217 rfl) rfl
theorem q317 : (Jvm.Cond.code ({ cls := "java/lang/StringUTF16", name := "length", desc := "([B)I" } : Jvm.MethodName) prog_50_method_6_code (1 : Nat) (Option.some Jvm.ClassFile.FieldType.int)) ∈ lw_all := lw_g (lw_at lw_m1 218 rfl) rfl
theorem q318 : (Jvm.Cond.methodLink "java/lang/StringUTF16" (241 : Nat) ({ cls := "java/lang/String", name := "checkBoundsBeginEnd", desc := "(III)V" } : Jvm.MethodName)) ∈ lw_all := lw_g (lw_at lw_m1 219 rfl) rfl
theorem q326 : (Jvm.Cond.methodLink "java/lang/StringUTF16" (111 : Nat) ({ cls := "java/lang/StringUTF16", name := "putChar", desc := "([BII)V" } : Jvm.MethodName)) ∈ lw_all := lw_g (lw_at lw_m1 227 rfl) rfl
theorem q327 : (Jvm.Cond.static ({ cls := "java/lang/StringUTF16", name := "putChar", desc := "([BII)V" } : Jvm.MethodName)) ∈ lw_all := lw_g (lw_at lw_m1 228 rfl) rfl
theorem q328 : (Jvm.Cond.code ({ cls := "java/lang/StringUTF16", name := "putChar", desc := "([BII)V" } : Jvm.MethodName) prog_50_method_4_code (3 : Nat) (Option.none : Option Jvm.ClassFile.FieldType)) ∈ lw_all := lw_g (lw_at lw_m1 229 rfl) rfl
theorem q329 : (Jvm.Cond.fieldLink "java/lang/StringUTF16" (44 : Nat) "java/lang/StringUTF16" "$assertionsDisabled" "Z") ∈ lw_all := lw_g (lw_at lw_m1 230 rfl) rfl
theorem q330 : (Jvm.Cond.laysStatic "java/lang/StringUTF16" "$assertionsDisabled" "Z") ∈ lw_tbl := lw_at lw_m1 231 rfl
theorem q331 : (Jvm.Cond.fieldLink "java/lang/StringUTF16" (59 : Nat) "java/lang/StringUTF16" "HI_BYTE_SHIFT" "I") ∈ lw_all := lw_g (lw_at lw_m1 232 rfl) rfl
theorem q332 : (Jvm.Cond.laysStatic "java/lang/StringUTF16" "HI_BYTE_SHIFT" "I") ∈ lw_tbl := lw_at lw_m1 233 rfl
theorem q333 : (Jvm.Cond.fieldLink "java/lang/StringUTF16" (63 : Nat) "java/lang/StringUTF16" "LO_BYTE_SHIFT" "I") ∈ lw_all := lw_g (lw_at lw_m1 234 rfl) rfl
theorem q334 : (Jvm.Cond.laysStatic "java/lang/StringUTF16" "LO_BYTE_SHIFT" "I") ∈ lw_tbl := lw_at lw_m1 235 rfl
theorem q361 : (Jvm.Cond.static ({ cls := "java/lang/StringUTF16", name := "inflate", desc := "([BI[BII)V" } : Jvm.MethodName)) ∈ lw_all := lw_g (lw_at lw_m2 22 rfl) rfl
theorem q362 : (Jvm.Cond.code ({ cls := "java/lang/StringUTF16", name := "inflate", desc := "([BI[BII)V" } : Jvm.MethodName) prog_50_method_86_code (6 : Nat) (Option.none : Option Jvm.ClassFile.FieldType)) ∈ lw_all := lw_g (lw_at lw_m2 23 rfl) rfl
theorem q363 : (Jvm.Cond.methodLink "java/lang/StringUTF16" (173 : Nat) ({ cls := "java/lang/StringUTF16", name := "checkBoundsOffCount", desc := "(II[B)V" } : Jvm.MethodName)) ∈ lw_all := lw_g (lw_at lw_m2 24 rfl) rfl
theorem q364 : (Jvm.Cond.static ({ cls := "java/lang/StringUTF16", name := "checkBoundsOffCount", desc := "(II[B)V" } : Jvm.MethodName)) ∈ lw_all := lw_g (lw_at lw_m2 25 rfl) rfl
theorem q365 : (Jvm.Cond.code ({ cls := "java/lang/StringUTF16", name := "checkBoundsOffCount", desc := "(II[B)V" } : Jvm.MethodName) prog_50_method_94_code (3 : Nat) (Option.none : Option Jvm.ClassFile.FieldType)) ∈ lw_all := lw_g (lw_at lw_m2 26 rfl) rfl
theorem q366 : (Jvm.Cond.methodLink "java/lang/StringUTF16" (419 : Nat) ({ cls := "java/lang/String", name := "checkBoundsOffCount", desc := "(III)I" } : Jvm.MethodName)) ∈ lw_all := lw_g (lw_at lw_m2 27 rfl) rfl
theorem q396 : (Jvm.Cond.static ({ cls := "java/lang/StringUTF16", name := "getChars", desc := "(III[B)I" } : Jvm.MethodName)) ∈ lw_all := lw_g (lw_at lw_m2 57 rfl) rfl
theorem q397 : (Jvm.Cond.code ({ cls := "java/lang/StringUTF16", name := "getChars", desc := "(III[B)I" } : Jvm.MethodName) prog_50_method_77_code (5 : Nat) (Option.some Jvm.ClassFile.FieldType.int)) ∈ lw_all := lw_g (lw_at lw_m2 58 rfl) rfl
theorem q398 : (Jvm.Cond.methodLink "java/lang/StringUTF16" (393 : Nat) ({ cls := "java/lang/StringUTF16", name := "getChars", desc := "(II[B)I" } : Jvm.MethodName)) ∈ lw_all := lw_g (lw_at lw_m2 59 rfl) rfl
theorem q399 : (Jvm.Cond.static ({ cls := "java/lang/StringUTF16", name := "getChars", desc := "(II[B)I" } : Jvm.MethodName)) ∈ lw_all := lw_g (lw_at lw_m2 60 rfl) rfl
theorem q400 : (Jvm.Cond.code ({ cls := "java/lang/StringUTF16", name := "getChars", desc := "(II[B)I" } : Jvm.MethodName) prog_50_method_89_code (7 : Nat) (Option.some Jvm.ClassFile.FieldType.int)) ∈ lw_all := lw_g (lw_at lw_m2 61 rfl) rfl
theorem q401 : (Jvm.Cond.fieldLink "java/lang/StringUTF16" (403 : Nat) "java/lang/Integer" "DigitOnes" "[B") ∈ lw_all := lw_g (lw_at lw_m2 62 rfl) rfl
theorem q402 : (Jvm.Cond.fieldLink "java/lang/StringUTF16" (407 : Nat) "java/lang/Integer" "DigitTens" "[B") ∈ lw_all := lw_g (lw_at lw_m2 63 rfl) rfl
theorem q472 : (Jvm.Cond.static ({ cls := "java/lang/StringUTF16", name := "compress", desc := "([BII)[B" } : Jvm.MethodName)) ∈ lw_all := lw_g (lw_at lw_m2 133 rfl) rfl
theorem q473 : (Jvm.Cond.code ({ cls := "java/lang/StringUTF16", name := "compress", desc := "([BII)[B" } : Jvm.MethodName) prog_50_method_17_code (6 : Nat) (Option.some (Jvm.ClassFile.FieldType.array Jvm.ClassFile.FieldType.byte))) ∈ lw_all := lw_g (lw_at lw_m2 134 rfl) rfl
theorem q474 : (Jvm.Cond.methodLink "java/lang/StringUTF16" (123 : Nat) ({ cls := "java/lang/StringUTF16", name := "compress", desc := "([BI[BII)I" } : Jvm.MethodName)) ∈ lw_all := lw_g (lw_at lw_m2 135 rfl) rfl
theorem q475 : (Jvm.Cond.static ({ cls := "java/lang/StringUTF16", name := "compress", desc := "([BI[BII)I" } : Jvm.MethodName)) ∈ lw_all := lw_g (lw_at lw_m2 136 rfl) rfl
theorem q476 : (Jvm.Cond.code ({ cls := "java/lang/StringUTF16", name := "compress", desc := "([BI[BII)I" } : Jvm.MethodName) prog_50_method_22_code (7 : Nat) (Option.some Jvm.ClassFile.FieldType.int)) ∈ lw_all := lw_g (lw_at lw_m2 137 rfl) rfl
theorem q477 : (Jvm.Cond.methodLink "java/lang/StringUTF16" (71 : Nat) ({ cls := "java/lang/StringUTF16", name := "getChar", desc := "([BI)C" } : Jvm.MethodName)) ∈ lw_all := lw_g (lw_at lw_m2 138 rfl) rfl
theorem q478 : (Jvm.Cond.static ({ cls := "java/lang/StringUTF16", name := "getChar", desc := "([BI)C" } : Jvm.MethodName)) ∈ lw_all := lw_g (lw_at lw_m2 139 rfl) rfl
theorem q479 : (Jvm.Cond.code ({ cls := "java/lang/StringUTF16", name := "getChar", desc := "([BI)C" } : Jvm.MethodName) prog_50_method_5_code (2 : Nat) (Option.some Jvm.ClassFile.FieldType.char)) ∈ lw_all := lw_g (lw_at lw_m2 140 rfl) rfl
theorem q480 : (Jvm.Cond.methodLink "java/lang/StringUTF16" (126 : Nat) ({ cls := "java/util/Arrays", name := "copyOfRange", desc := "([BII)[B" } : Jvm.MethodName)) ∈ lw_all := lw_g (lw_at lw_m2 141 rfl) rfl
theorem q482 : (Jvm.Cond.static ({ cls := "java/lang/StringUTF16", name := "coderFromArrayLen", desc := "([BI)B" } : Jvm.MethodName)) ∈ lw_all := lw_g (lw_at lw_m2 143 rfl) rfl
theorem q483 : (Jvm.Cond.code ({ cls := "java/lang/StringUTF16", name := "coderFromArrayLen", desc := "([BI)B" } : Jvm.MethodName) prog_50_method_15_code (2 : Nat) (Option.some Jvm.ClassFile.FieldType.byte)) ∈ lw_all := lw_g (lw_at lw_m2 144 rfl) rfl
theorem q1033 : (Jvm.Cond.static ({ cls := "java/lang/StringUTF16", name := "putCharSB", desc := "([BII)V" } : Jvm.MethodName)) ∈ lw_all := lw_g (lw_at lw_m4 214 rfl) rfl
theorem q1034 : (Jvm.Cond.code ({ cls := "java/lang/StringUTF16", name := "putCharSB", desc := "([BII)V" } : Jvm.MethodName) prog_50_method_71_code (3 : Nat) (Option.none : Option Jvm.ClassFile.FieldType)) ∈ lw_all := lw_g (lw_at lw_m4 215 rfl) rfl
theorem q1035 : (Jvm.Cond.methodLink "java/lang/StringUTF16" (67 : Nat) ({ cls := "java/lang/StringUTF16", name := "checkIndex", desc := "(I[B)V" } : Jvm.MethodName)) ∈ lw_all := lw_g (lw_at lw_m4 216 rfl) rfl
theorem q1036 : (Jvm.Cond.static ({ cls := "java/lang/StringUTF16", name := "checkIndex", desc := "(I[B)V" } : Jvm.MethodName)) ∈ lw_all := lw_g (lw_at lw_m4 217 rfl) rfl
theorem q1037 : (Jvm.Cond.code ({ cls := "java/lang/StringUTF16", name := "checkIndex", desc := "(I[B)V" } : Jvm.MethodName) prog_50_method_91_code (2 : Nat) (Option.none : Option Jvm.ClassFile.FieldType)) ∈ lw_all := lw_g (lw_at lw_m4 218 rfl) rfl
theorem q1038 : (Jvm.Cond.methodLink "java/lang/StringUTF16" (414 : Nat) ({ cls := "java/lang/String", name := "checkIndex", desc := "(II)V" } : Jvm.MethodName)) ∈ lw_all := lw_g (lw_at lw_m4 219 rfl) rfl
theorem q1105 : (Jvm.Cond.static ({ cls := "java/lang/StringUTF16", name := "hashCode", desc := "([B)I" } : Jvm.MethodName)) ∈ lw_all := lw_g (lw_at lw_m5 46 rfl) rfl
theorem q1106 : (Jvm.Cond.code ({ cls := "java/lang/StringUTF16", name := "hashCode", desc := "([B)I" } : Jvm.MethodName) prog_50_method_39_code (1 : Nat) (Option.some Jvm.ClassFile.FieldType.int)) ∈ lw_all := lw_g (lw_at lw_m5 47 rfl) rfl
theorem q1107 : (Jvm.Cond.methodLink "java/lang/StringUTF16" (220 : Nat) ({ cls := "jdk/internal/util/ArraysSupport", name := "vectorizedHashCode", desc := "(Ljava/lang/Object;IIII)I" } : Jvm.MethodName)) ∈ lw_all := lw_g (lw_at lw_m5 48 rfl) rfl
/-! jdk/internal/util/ArraysSupport -/
def RJ11 : String := "jdk/internal/util/ArraysSupport"
abbrev cJ11_newLength : ByteArray := prog_67_method_27_code
def yJ11_newLength : MethodName := ⟨RJ11, "newLength", "(III)I"⟩
abbrev cJ11_hugeLength : ByteArray := prog_67_method_28_code
def yJ11_hugeLength : MethodName := ⟨RJ11, "hugeLength", "(II)I"⟩
abbrev cJ11_vectorizedHashCode : ByteArray := prog_67_method_4_code
def yJ11_vectorizedHashCode : MethodName := ⟨RJ11, "vectorizedHashCode", "(Ljava/lang/Object;IIII)I"⟩
abbrev cJ11_signedHashCode : ByteArray := prog_67_method_5_code
def yJ11_signedHashCode : MethodName := ⟨RJ11, "signedHashCode", "(I[BII)I"⟩
abbrev cJ11_utf16hashCode : ByteArray := prog_67_method_10_code
def yJ11_utf16hashCode : MethodName := ⟨RJ11, "utf16hashCode", "(I[BII)I"⟩
abbrev cJ11_hashCode : ByteArray := prog_67_method_7_code
def yJ11_hashCode : MethodName := ⟨RJ11, "hashCode", "(I[CII)I"⟩
abbrev cJ11_hashCode_2 : ByteArray := prog_67_method_6_code
def yJ11_hashCode_2 : MethodName := ⟨RJ11, "hashCode", "(I[BII)I"⟩
abbrev cJ11_hashCode_3 : ByteArray := prog_67_method_8_code
def yJ11_hashCode_3 : MethodName := ⟨RJ11, "hashCode", "(I[SII)I"⟩
abbrev cJ11_hashCode_4 : ByteArray := prog_67_method_9_code
def yJ11_hashCode_4 : MethodName := ⟨RJ11, "hashCode", "(I[III)I"⟩
theorem q113 : (Jvm.Cond.initialized "jdk/internal/util/ArraysSupport") ∈ lw_all := lw_g (lw_at lw_m1 14 rfl) rfl
theorem q278 : (Jvm.Cond.static ({ cls := "jdk/internal/util/ArraysSupport", name := "newLength", desc := "(III)I" } : Jvm.MethodName)) ∈ lw_all := lw_g (lw_at lw_m1 179 rfl) rfl
theorem q279 : (Jvm.Cond.code ({ cls := "jdk/internal/util/ArraysSupport", name := "newLength", desc := "(III)I" } : Jvm.MethodName) prog_67_method_27_code (4 : Nat) (Option.some Jvm.ClassFile.FieldType.int)) ∈ lw_all := lw_g (lw_at lw_m1 180 rfl) rfl
theorem q280 : (Jvm.Cond.methodLink "jdk/internal/util/ArraysSupport" (194 : Nat) ({ cls := "java/lang/Math", name := "max", desc := "(II)I" } : Jvm.MethodName)) ∈ lw_all := lw_g (lw_at lw_m1 181 rfl) rfl
theorem q283 : (Jvm.Cond.constant "jdk/internal/util/ArraysSupport" (200 : Nat) (2147483639 : Int32)) ∈ lw_all := lw_g (lw_at lw_m1 184 rfl) rfl
theorem q284 : (Jvm.Cond.methodLink "jdk/internal/util/ArraysSupport" (201 : Nat) ({ cls := "jdk/internal/util/ArraysSupport", name := "hugeLength", desc := "(II)I" } : Jvm.MethodName)) ∈ lw_all := lw_g (lw_at lw_m1 185 rfl) rfl
theorem q285 : (Jvm.Cond.static ({ cls := "jdk/internal/util/ArraysSupport", name := "hugeLength", desc := "(II)I" } : Jvm.MethodName)) ∈ lw_all := lw_g (lw_at lw_m1 186 rfl) rfl
theorem q286 : (Jvm.Cond.code ({ cls := "jdk/internal/util/ArraysSupport", name := "hugeLength", desc := "(II)I" } : Jvm.MethodName) prog_67_method_28_code (3 : Nat) (Option.some Jvm.ClassFile.FieldType.int)) ∈ lw_all := lw_g (lw_at lw_m1 187 rfl) rfl
theorem q1059 : (Jvm.Cond.static ({ cls := "jdk/internal/util/ArraysSupport", name := "vectorizedHashCode", desc := "(Ljava/lang/Object;IIII)I" } : Jvm.MethodName)) ∈ lw_all := lw_g (lw_at lw_m5 0 rfl) rfl
theorem q1060 : (Jvm.Cond.code ({ cls := "jdk/internal/util/ArraysSupport", name := "vectorizedHashCode", desc := "(Ljava/lang/Object;IIII)I" } : Jvm.MethodName) prog_67_method_4_code (5 : Nat) (Option.some Jvm.ClassFile.FieldType.int)) ∈ lw_all := lw_g (lw_at lw_m5 1 rfl) rfl
theorem q1061 : (Jvm.Cond.classLink "jdk/internal/util/ArraysSupport" (60 : Nat) "[B") ∈ lw_all := lw_g (lw_at lw_m5 2 rfl) rfl
theorem q1062 : (Jvm.Cond.methodLink "jdk/internal/util/ArraysSupport" (62 : Nat) ({ cls := "jdk/internal/util/ArraysSupport", name := "signedHashCode", desc := "(I[BII)I" } : Jvm.MethodName)) ∈ lw_all := lw_g (lw_at lw_m5 3 rfl) rfl
theorem q1063 : (Jvm.Cond.static ({ cls := "jdk/internal/util/ArraysSupport", name := "signedHashCode", desc := "(I[BII)I" } : Jvm.MethodName)) ∈ lw_all := lw_g (lw_at lw_m5 4 rfl) rfl
theorem q1064 : (Jvm.Cond.code ({ cls := "jdk/internal/util/ArraysSupport", name := "signedHashCode", desc := "(I[BII)I" } : Jvm.MethodName) prog_67_method_5_code (6 : Nat) (Option.some Jvm.ClassFile.FieldType.int)) ∈ lw_all := lw_g (lw_at lw_m5 5 rfl) rfl
theorem q1065 : (Jvm.Cond.methodLink "jdk/internal/util/ArraysSupport" (66 : Nat) ({ cls := "jdk/internal/util/ArraysSupport", name := "utf16hashCode", desc := "(I[BII)I" } : Jvm.MethodName)) ∈ lw_all := lw_g (lw_at lw_m5 6 rfl) rfl
theorem q1066 : (Jvm.Cond.static ({ cls := "jdk/internal/util/ArraysSupport", name := "utf16hashCode", desc := "(I[BII)I" } : Jvm.MethodName)) ∈ lw_all := lw_g (lw_at lw_m5 7 rfl) rfl
theorem q1067 : (Jvm.Cond.code ({ cls := "jdk/internal/util/ArraysSupport", name := "utf16hashCode", desc := "(I[BII)I" } : Jvm.MethodName) prog_67_method_10_code (6 : Nat) (Option.some Jvm.ClassFile.FieldType.int)) ∈ lw_all := lw_g (lw_at lw_m5 8 rfl) rfl
theorem q1068 : (Jvm.Cond.fieldLink "jdk/internal/util/ArraysSupport" (106 : Nat) "jdk/internal/util/ArraysSupport" "JLA" "Ljdk/internal/access/JavaLangAccess;") ∈ lw_all := lw_g (lw_at lw_m5 9 rfl) rfl
theorem q1069 : (Jvm.Cond.laysStatic "jdk/internal/util/ArraysSupport" "JLA" "Ljdk/internal/access/JavaLangAccess;") ∈ lw_tbl := lw_at lw_m5 10 rfl
theorem q1070 : (Jvm.Cond.interfaceEntry "jdk/internal/util/ArraysSupport" (110 : Nat)) ∈ lw_tbl := lw_at lw_m5 11 rfl
theorem q1071 : (Jvm.Cond.methodLink "jdk/internal/util/ArraysSupport" (110 : Nat) ({ cls := "jdk/internal/access/JavaLangAccess", name := "getUTF16Char", desc := "([BI)C" } : Jvm.MethodName)) ∈ lw_all := lw_g (lw_at lw_m5 12 rfl) rfl
theorem q1081 : (Jvm.Cond.classLink "jdk/internal/util/ArraysSupport" (69 : Nat) "[C") ∈ lw_all := lw_g (lw_at lw_m5 22 rfl) rfl
theorem q1082 : (Jvm.Cond.methodLink "jdk/internal/util/ArraysSupport" (71 : Nat) ({ cls := "jdk/internal/util/ArraysSupport", name := "hashCode", desc := "(I[CII)I" } : Jvm.MethodName)) ∈ lw_all := lw_g (lw_at lw_m5 23 rfl) rfl
theorem q1083 : (Jvm.Cond.static ({ cls := "jdk/internal/util/ArraysSupport", name := "hashCode", desc := "(I[CII)I" } : Jvm.MethodName)) ∈ lw_all := lw_g (lw_at lw_m5 24 rfl) rfl
theorem q1084 : (Jvm.Cond.code ({ cls := "jdk/internal/util/ArraysSupport", name := "hashCode", desc := "(I[CII)I" } : Jvm.MethodName) prog_67_method_7_code (6 : Nat) (Option.some Jvm.ClassFile.FieldType.int)) ∈ lw_all := lw_g (lw_at lw_m5 25 rfl) rfl
theorem q1085 : (Jvm.Cond.methodLink "jdk/internal/util/ArraysSupport" (75 : Nat) ({ cls := "jdk/internal/util/ArraysSupport", name := "hashCode", desc := "(I[BII)I" } : Jvm.MethodName)) ∈ lw_all := lw_g (lw_at lw_m5 26 rfl) rfl
theorem q1086 : (Jvm.Cond.static ({ cls := "jdk/internal/util/ArraysSupport", name := "hashCode", desc := "(I[BII)I" } : Jvm.MethodName)) ∈ lw_all := lw_g (lw_at lw_m5 27 rfl) rfl
theorem q1087 : (Jvm.Cond.code ({ cls := "jdk/internal/util/ArraysSupport", name := "hashCode", desc := "(I[BII)I" } : Jvm.MethodName) prog_67_method_6_code (6 : Nat) (Option.some Jvm.ClassFile.FieldType.int)) ∈ lw_all := lw_g (lw_at lw_m5 28 rfl) rfl
theorem q1088 : (Jvm.Cond.classLink "jdk/internal/util/ArraysSupport" (77 : Nat) "[S") ∈ lw_all := lw_g (lw_at lw_m5 29 rfl) rfl
theorem q1089 : (Jvm.Cond.methodLink "jdk/internal/util/ArraysSupport" (79 : Nat) ({ cls := "jdk/internal/util/ArraysSupport", name := "hashCode", desc := "(I[SII)I" } : Jvm.MethodName)) ∈ lw_all := lw_g (lw_at lw_m5 30 rfl) rfl
theorem q1090 : (Jvm.Cond.static ({ cls := "jdk/internal/util/ArraysSupport", name := "hashCode", desc := "(I[SII)I" } : Jvm.MethodName)) ∈ lw_all := lw_g (lw_at lw_m5 31 rfl) rfl
theorem q1091 : (Jvm.Cond.code ({ cls := "jdk/internal/util/ArraysSupport", name := "hashCode", desc := "(I[SII)I" } : Jvm.MethodName) prog_67_method_8_code (6 : Nat) (Option.some Jvm.ClassFile.FieldType.int)) ∈ lw_all := lw_g (lw_at lw_m5 32 rfl) rfl
theorem q1092 : (Jvm.Cond.classLink "jdk/internal/util/ArraysSupport" (82 : Nat) "[I") ∈ lw_all := lw_g (lw_at lw_m5 33 rfl) rfl
theorem q1093 : (Jvm.Cond.methodLink "jdk/internal/util/ArraysSupport" (84 : Nat) ({ cls := "jdk/internal/util/ArraysSupport", name := "hashCode", desc := "(I[III)I" } : Jvm.MethodName)) ∈ lw_all := lw_g (lw_at lw_m5 34 rfl) rfl
theorem q1094 : (Jvm.Cond.static ({ cls := "jdk/internal/util/ArraysSupport", name := "hashCode", desc := "(I[III)I" } : Jvm.MethodName)) ∈ lw_all := lw_g (lw_at lw_m5 35 rfl) rfl
theorem q1095 : (Jvm.Cond.code ({ cls := "jdk/internal/util/ArraysSupport", name := "hashCode", desc := "(I[III)I" } : Jvm.MethodName) prog_67_method_9_code (6 : Nat) (Option.some Jvm.ClassFile.FieldType.int)) ∈ lw_all := lw_g (lw_at lw_m5 36 rfl) rfl
theorem q1096 : (Jvm.Cond.classLink "jdk/internal/util/ArraysSupport" (87 : Nat) "java/lang/IllegalArgumentException") ∈ lw_all := lw_g (lw_at lw_m5 37 rfl) rfl
theorem q1097 : (Jvm.Cond.classLink "jdk/internal/util/ArraysSupport" (89 : Nat) "java/lang/StringBuilder") ∈ lw_all := lw_g (lw_at lw_m5 38 rfl) rfl
theorem q1098 : (Jvm.Cond.methodLink "jdk/internal/util/ArraysSupport" (91 : Nat) ({ cls := "java/lang/StringBuilder", name := "<init>", desc := "()V" } : Jvm.MethodName)) ∈ lw_all := lw_g (lw_at lw_m5 39 rfl) rfl
theorem q1099 : (Jvm.Cond.stringRef "jdk/internal/util/ArraysSupport" (92 : Nat) "unrecognized basic type: ") ∈ lw_tbl := lw_at lw_m5 40 rfl
theorem q1100 : (Jvm.Cond.methodLink "jdk/internal/util/ArraysSupport" (94 : Nat) ({ cls := "java/lang/StringBuilder", name := "append", desc := "(Ljava/lang/String;)Ljava/lang/StringBuilder;" } : Jvm.MethodName)) ∈ lw_all := lw_g (lw_at lw_m5 41 rfl) rfl
theorem q1101 : (Jvm.Cond.methodLink "jdk/internal/util/ArraysSupport" (98 : Nat) ({ cls := "java/lang/StringBuilder", name := "append", desc := "(I)Ljava/lang/StringBuilder;" } : Jvm.MethodName)) ∈ lw_all := lw_g (lw_at lw_m5 42 rfl) rfl
theorem q1102 : (Jvm.Cond.methodLink "jdk/internal/util/ArraysSupport" (101 : Nat) ({ cls := "java/lang/StringBuilder", name := "toString", desc := "()Ljava/lang/String;" } : Jvm.MethodName)) ∈ lw_all := lw_g (lw_at lw_m5 43 rfl) rfl
theorem q1103 : (Jvm.Cond.methodLink "jdk/internal/util/ArraysSupport" (105 : Nat) ({ cls := "java/lang/IllegalArgumentException", name := "<init>", desc := "(Ljava/lang/String;)V" } : Jvm.MethodName)) ∈ lw_all := lw_g (lw_at lw_m5 44 rfl) rfl
/-! java/lang/Math -/
def RJ12 : String := "java/lang/Math"
abbrev cJ12_max : ByteArray := prog_44_method_65_code
def yJ12_max : MethodName := ⟨RJ12, "max", "(II)I"⟩
abbrev cJ12_min : ByteArray := prog_44_method_69_code
def yJ12_min : MethodName := ⟨RJ12, "min", "(II)I"⟩
abbrev cJ12_max_2 : ByteArray := prog_44_method_66_code
def yJ12_max_2 : MethodName := ⟨RJ12, "max", "(JJ)J"⟩
theorem q114 : (Jvm.Cond.initialized "java/lang/Math") ∈ lw_all := lw_g (lw_at lw_m1 15 rfl) rfl
theorem q281 : (Jvm.Cond.static ({ cls := "java/lang/Math", name := "max", desc := "(II)I" } : Jvm.MethodName)) ∈ lw_all := lw_g (lw_at lw_m1 182 rfl) rfl
theorem q282 : (Jvm.Cond.code ({ cls := "java/lang/Math", name := "max", desc := "(II)I" } : Jvm.MethodName) prog_44_method_65_code (2 : Nat) (Option.some Jvm.ClassFile.FieldType.int)) ∈ lw_all := lw_g (lw_at lw_m1 183 rfl) rfl
theorem q299 : (Jvm.Cond.static ({ cls := "java/lang/Math", name := "min", desc := "(II)I" } : Jvm.MethodName)) ∈ lw_all := lw_g (lw_at lw_m1 200 rfl) rfl
theorem q300 : (Jvm.Cond.code ({ cls := "java/lang/Math", name := "min", desc := "(II)I" } : Jvm.MethodName) prog_44_method_69_code (2 : Nat) (Option.some Jvm.ClassFile.FieldType.int)) ∈ lw_all := lw_g (lw_at lw_m1 201 rfl) rfl
theorem q1863 : (Jvm.Cond.static ({ cls := "java/lang/Math", name := "max", desc := "(JJ)J" } : Jvm.MethodName)) ∈ lw_all := lw_g (lw_at lw_m8 84 rfl) rfl
theorem q1864 : (Jvm.Cond.code ({ cls := "java/lang/Math", name := "max", desc := "(JJ)J" } : Jvm.MethodName) prog_44_method_66_code (4 : Nat) (Option.some Jvm.ClassFile.FieldType.long)) ∈ lw_all := lw_g (lw_at lw_m8 85 rfl) rfl
/-! java/util/Arrays -/
def RJ13 : String := "java/util/Arrays"
abbrev cJ13_copyOf : ByteArray := prog_59_method_121_code
def yJ13_copyOf : MethodName := ⟨RJ13, "copyOf", "([BI)[B"⟩
abbrev cJ13_copyOfRange : ByteArray := prog_59_method_132_code
def yJ13_copyOfRange : MethodName := ⟨RJ13, "copyOfRange", "([BII)[B"⟩
abbrev cJ13_copyOfRangeByte : ByteArray := prog_59_method_133_code
def yJ13_copyOfRangeByte : MethodName := ⟨RJ13, "copyOfRangeByte", "([BII)[B"⟩
abbrev cJ13_checkLength : ByteArray := prog_59_method_131_code
def yJ13_checkLength : MethodName := ⟨RJ13, "checkLength", "(II)V"⟩
abbrev cJ13_copyOf_2 : ByteArray := prog_59_method_119_code
def yJ13_copyOf_2 : MethodName := ⟨RJ13, "copyOf", "([Ljava/lang/Object;I)[Ljava/lang/Object;"⟩
abbrev cJ13_copyOf_3 : ByteArray := prog_59_method_120_code
def yJ13_copyOf_3 : MethodName := ⟨RJ13, "copyOf", "([Ljava/lang/Object;ILjava/lang/Class;)[Ljava/lang/Object;"⟩
theorem q115 : (Jvm.Cond.initialized "java/util/Arrays") ∈ lw_all := lw_g (lw_at lw_m1 16 rfl) rfl
theorem q289 : (Jvm.Cond.static ({ cls := "java/util/Arrays", name := "copyOf", desc := "([BI)[B" } : Jvm.MethodName)) ∈ lw_all := lw_g (lw_at lw_m1 190 rfl) rfl
theorem q290 : (Jvm.Cond.code ({ cls := "java/util/Arrays", name := "copyOf", desc := "([BI)[B" } : Jvm.MethodName) prog_59_method_121_code (3 : Nat) (Option.some (Jvm.ClassFile.FieldType.array Jvm.ClassFile.FieldType.byte))) ∈ lw_all := lw_g (lw_at lw_m1 191 rfl) rfl
theorem q291 : (Jvm.Cond.methodLink "java/util/Arrays" (310 : Nat) ({ cls := "[B", name := "clone", desc := "()Ljava/lang/Object;" } : Jvm.MethodName)) ∈ lw_all := lw_g (lw_at lw_m1 192 rfl) rfl
theorem q297 : (Jvm.Cond.classLink "java/util/Arrays" (311 : Nat) "[B") ∈ lw_all := lw_g (lw_at lw_m1 198 rfl) rfl
theorem q298 : (Jvm.Cond.methodLink "java/util/Arrays" (304 : Nat) ({ cls := "java/lang/Math", name := "min", desc := "(II)I" } : Jvm.MethodName)) ∈ lw_all := lw_g (lw_at lw_m1 199 rfl) rfl
theorem q301 : (Jvm.Cond.methodLink "java/util/Arrays" (150 : Nat) ({ cls := "java/lang/System", name := "arraycopy", desc := "(Ljava/lang/Object;ILjava/lang/Object;II)V" } : Jvm.MethodName)) ∈ lw_all := lw_g (lw_at lw_m1 202 rfl) rfl
theorem q431 : (Jvm.Cond.static ({ cls := "java/util/Arrays", name := "copyOfRange", desc := "([BII)[B" } : Jvm.MethodName)) ∈ lw_all := lw_g (lw_at lw_m2 92 rfl) rfl
theorem q432 : (Jvm.Cond.code ({ cls := "java/util/Arrays", name := "copyOfRange", desc := "([BII)[B" } : Jvm.MethodName) prog_59_method_132_code (3 : Nat) (Option.some (Jvm.ClassFile.FieldType.array Jvm.ClassFile.FieldType.byte))) ∈ lw_all := lw_g (lw_at lw_m2 93 rfl) rfl
theorem q433 : (Jvm.Cond.methodLink "java/util/Arrays" (339 : Nat) ({ cls := "java/util/Arrays", name := "copyOfRangeByte", desc := "([BII)[B" } : Jvm.MethodName)) ∈ lw_all := lw_g (lw_at lw_m2 94 rfl) rfl
theorem q434 : (Jvm.Cond.static ({ cls := "java/util/Arrays", name := "copyOfRangeByte", desc := "([BII)[B" } : Jvm.MethodName)) ∈ lw_all := lw_g (lw_at lw_m2 95 rfl) rfl
theorem q435 : (Jvm.Cond.code ({ cls := "java/util/Arrays", name := "copyOfRangeByte", desc := "([BII)[B" } : Jvm.MethodName) prog_59_method_133_code (5 : Nat) (Option.some (Jvm.ClassFile.FieldType.array Jvm.ClassFile.FieldType.byte))) ∈ lw_all := lw_g (lw_at lw_m2 96 rfl) rfl
theorem q436 : (Jvm.Cond.methodLink "java/util/Arrays" (343 : Nat) ({ cls := "java/util/Arrays", name := "checkLength", desc := "(II)V" } : Jvm.MethodName)) ∈ lw_all := lw_g (lw_at lw_m2 97 rfl) rfl
theorem q437 : (Jvm.Cond.static ({ cls := "java/util/Arrays", name := "checkLength", desc := "(II)V" } : Jvm.MethodName)) ∈ lw_all := lw_g (lw_at lw_m2 98 rfl) rfl
theorem q438 : (Jvm.Cond.code ({ cls := "java/util/Arrays", name := "checkLength", desc := "(II)V" } : Jvm.MethodName) prog_59_method_131_code (2 : Nat) (Option.none : Option Jvm.ClassFile.FieldType)) ∈ lw_all := lw_g (lw_at lw_m2 99 rfl) rfl
theorem q439 : (Jvm.Cond.classLink "java/util/Arrays" (43 : Nat) "java/lang/IllegalArgumentException") ∈ lw_all := lw_g (lw_at lw_m2 100 rfl) rfl
theorem q440 : (Jvm.Cond.classLink "java/util/Arrays" (45 : Nat) "java/lang/StringBuilder") ∈ lw_all := lw_g (lw_at lw_m2 101 rfl) rfl
theorem q441 : (Jvm.Cond.methodLink "java/util/Arrays" (47 : Nat) ({ cls := "java/lang/StringBuilder", name := "<init>", desc := "()V" } : Jvm.MethodName)) ∈ lw_all := lw_g (lw_at lw_m2 102 rfl) rfl
theorem q442 : (Jvm.Cond.methodLink "java/util/Arrays" (54 : Nat) ({ cls := "java/lang/StringBuilder", name := "append", desc := "(I)Ljava/lang/StringBuilder;" } : Jvm.MethodName)) ∈ lw_all := lw_g (lw_at lw_m2 103 rfl) rfl
theorem q443 : (Jvm.Cond.stringRef "java/util/Arrays" (337 : Nat) " > ") ∈ lw_tbl := lw_at lw_m2 104 rfl
theorem q444 : (Jvm.Cond.methodLink "java/util/Arrays" (50 : Nat) ({ cls := "java/lang/StringBuilder", name := "append", desc := "(Ljava/lang/String;)Ljava/lang/StringBuilder;" } : Jvm.MethodName)) ∈ lw_all := lw_g (lw_at lw_m2 105 rfl) rfl
theorem q445 : (Jvm.Cond.methodLink "java/util/Arrays" (61 : Nat) ({ cls := "java/lang/StringBuilder", name := "toString", desc := "()Ljava/lang/String;" } : Jvm.MethodName)) ∈ lw_all := lw_g (lw_at lw_m2 106 rfl) rfl
theorem q446 : (Jvm.Cond.methodLink "java/util/Arrays" (65 : Nat) ({ cls := "java/lang/IllegalArgumentException", name := "<init>", desc := "(Ljava/lang/String;)V" } : Jvm.MethodName)) ∈ lw_all := lw_g (lw_at lw_m2 107 rfl) rfl
theorem q1218 : (Jvm.Cond.static ({ cls := "java/util/Arrays", name := "copyOf", desc := "([Ljava/lang/Object;I)[Ljava/lang/Object;" } : Jvm.MethodName)) ∈ lw_all := lw_g (lw_at lw_m5 159 rfl) rfl
theorem q1219 : (Jvm.Cond.code ({ cls := "java/util/Arrays", name := "copyOf", desc := "([Ljava/lang/Object;I)[Ljava/lang/Object;" } : Jvm.MethodName) prog_59_method_119_code (2 : Nat) (Option.some (Jvm.ClassFile.FieldType.array (Jvm.ClassFile.FieldType.object "java/lang/Object")))) ∈ lw_all := lw_g (lw_at lw_m5 160 rfl) rfl
theorem q1220 : (Jvm.Cond.methodLink "java/util/Arrays" (86 : Nat) ({ cls := "java/lang/Object", name := "getClass", desc := "()Ljava/lang/Class;" } : Jvm.MethodName)) ∈ lw_all := lw_g (lw_at lw_m5 161 rfl) rfl
theorem q1257 : (Jvm.Cond.methodLink "java/util/Arrays" (300 : Nat) ({ cls := "java/util/Arrays", name := "copyOf", desc := "([Ljava/lang/Object;ILjava/lang/Class;)[Ljava/lang/Object;" } : Jvm.MethodName)) ∈ lw_all := lw_g (lw_at lw_m5 198 rfl) rfl
theorem q1258 : (Jvm.Cond.static ({ cls := "java/util/Arrays", name := "copyOf", desc := "([Ljava/lang/Object;ILjava/lang/Class;)[Ljava/lang/Object;" } : Jvm.MethodName)) ∈ lw_all := lw_g (lw_at lw_m5 199 rfl) rfl
theorem q1259 : (Jvm.Cond.code ({ cls := "java/util/Arrays", name := "copyOf", desc := "([Ljava/lang/Object;ILjava/lang/Class;)[Ljava/lang/Object;" } : Jvm.MethodName) prog_59_method_120_code (4 : Nat) (Option.some (Jvm.ClassFile.FieldType.array (Jvm.ClassFile.FieldType.object "java/lang/Object")))) ∈ lw_all := lw_g (lw_at lw_m5 200 rfl) rfl
theorem q1260 : (Jvm.Cond.classLink "java/util/Arrays" (110 : Nat) "[Ljava/lang/Object;") ∈ lw_all := lw_g (lw_at lw_m5 201 rfl) rfl
theorem q1261 : (Jvm.Cond.classLink "java/util/Arrays" (2 : Nat) "java/lang/Object") ∈ lw_all := lw_g (lw_at lw_m5 202 rfl) rfl
/-! jdk/internal/util/Preconditions -/
def RJ14 : String := "jdk/internal/util/Preconditions"
abbrev cJ14_checkFromToIndex : ByteArray := prog_68_method_12_code
def yJ14_checkFromToIndex : MethodName := ⟨RJ14, "checkFromToIndex", "(IIILjava/util/function/BiFunction;)I"⟩
abbrev cJ14_checkFromIndexSize : ByteArray := prog_68_method_13_code
def yJ14_checkFromIndexSize : MethodName := ⟨RJ14, "checkFromIndexSize", "(IIILjava/util/function/BiFunction;)I"⟩
abbrev cJ14_checkIndex : ByteArray := prog_68_method_11_code
def yJ14_checkIndex : MethodName := ⟨RJ14, "checkIndex", "(IILjava/util/function/BiFunction;)I"⟩
theorem q117 : (Jvm.Cond.initialized "jdk/internal/util/Preconditions") ∈ lw_all := lw_g (lw_at lw_m1 18 rfl) rfl
theorem q322 : (Jvm.Cond.laysStatic "jdk/internal/util/Preconditions" "SIOOBE_FORMATTER" "Ljava/util/function/BiFunction;") ∈ lw_tbl := lw_at lw_m1 223 rfl
theorem q324 : (Jvm.Cond.static ({ cls := "jdk/internal/util/Preconditions", name := "checkFromToIndex", desc := "(IIILjava/util/function/BiFunction;)I" } : Jvm.MethodName)) ∈ lw_all := lw_g (lw_at lw_m1 225 rfl) rfl
theorem q325 : (Jvm.Cond.code ({ cls := "jdk/internal/util/Preconditions", name := "checkFromToIndex", desc := "(IIILjava/util/function/BiFunction;)I" } : Jvm.MethodName) prog_68_method_12_code (4 : Nat) (Option.some Jvm.ClassFile.FieldType.int)) ∈ lw_all := lw_g (lw_at lw_m1 226 rfl) rfl
theorem q370 : (Jvm.Cond.static ({ cls := "jdk/internal/util/Preconditions", name := "checkFromIndexSize", desc := "(IIILjava/util/function/BiFunction;)I" } : Jvm.MethodName)) ∈ lw_all := lw_g (lw_at lw_m2 31 rfl) rfl
theorem q371 : (Jvm.Cond.code ({ cls := "jdk/internal/util/Preconditions", name := "checkFromIndexSize", desc := "(IIILjava/util/function/BiFunction;)I" } : Jvm.MethodName) prog_68_method_13_code (4 : Nat) (Option.some Jvm.ClassFile.FieldType.int)) ∈ lw_all := lw_g (lw_at lw_m2 32 rfl) rfl
theorem q781 : (Jvm.Cond.static ({ cls := "jdk/internal/util/Preconditions", name := "checkIndex", desc := "(IILjava/util/function/BiFunction;)I" } : Jvm.MethodName)) ∈ lw_all := lw_g (lw_at lw_m3 202 rfl) rfl
theorem q782 : (Jvm.Cond.code ({ cls := "jdk/internal/util/Preconditions", name := "checkIndex", desc := "(IILjava/util/function/BiFunction;)I" } : Jvm.MethodName) prog_68_method_11_code (3 : Nat) (Option.some Jvm.ClassFile.FieldType.int)) ∈ lw_all := lw_g (lw_at lw_m3 203 rfl) rfl
/-! java/lang/StringLatin1 -/
def RJ15 : String := "java/lang/StringLatin1"
abbrev cJ15_inflate : ByteArray := prog_49_method_50_code
def yJ15_inflate : MethodName := ⟨RJ15, "inflate", "([BI[BII)V"⟩
abbrev cJ15_canEncode : ByteArray := prog_49_method_3_code
def yJ15_canEncode : MethodName := ⟨RJ15, "canEncode", "(C)Z"⟩
abbrev cJ15_hashCode : ByteArray := prog_49_method_21_code
def yJ15_hashCode : MethodName := ⟨RJ15, "hashCode", "([B)I"⟩
abbrev cJ15_equals : ByteArray := prog_49_method_13_code
def yJ15_equals : MethodName := ⟨RJ15, "equals", "([B[B)Z"⟩
theorem q118 : (Jvm.Cond.initialized "java/lang/StringLatin1") ∈ lw_all := lw_g (lw_at lw_m1 19 rfl) rfl
theorem q358 : (Jvm.Cond.static ({ cls := "java/lang/StringLatin1", name := "inflate", desc := "([BI[BII)V" } : Jvm.MethodName)) ∈ lw_all := lw_g (lw_at lw_m2 19 rfl) rfl
theorem q359 : (Jvm.Cond.code ({ cls := "java/lang/StringLatin1", name := "inflate", desc := "([BI[BII)V" } : Jvm.MethodName) prog_49_method_50_code (5 : Nat) (Option.none : Option Jvm.ClassFile.FieldType)) ∈ lw_all := lw_g (lw_at lw_m2 20 rfl) rfl
theorem q360 : (Jvm.Cond.methodLink "java/lang/StringLatin1" (240 : Nat) ({ cls := "java/lang/StringUTF16", name := "inflate", desc := "([BI[BII)V" } : Jvm.MethodName)) ∈ lw_all := lw_g (lw_at lw_m2 21 rfl) rfl
theorem q1030 : (Jvm.Cond.static ({ cls := "java/lang/StringLatin1", name := "canEncode", desc := "(C)Z" } : Jvm.MethodName)) ∈ lw_all := lw_g (lw_at lw_m4 211 rfl) rfl
theorem q1031 : (Jvm.Cond.code ({ cls := "java/lang/StringLatin1", name := "canEncode", desc := "(C)Z" } : Jvm.MethodName) prog_49_method_3_code (1 : Nat) (Option.some Jvm.ClassFile.FieldType.boolean)) ∈ lw_all := lw_g (lw_at lw_m4 212 rfl) rfl
theorem q1056 : (Jvm.Cond.static ({ cls := "java/lang/StringLatin1", name := "hashCode", desc := "([B)I" } : Jvm.MethodName)) ∈ lw_all := lw_g (lw_at lw_m4 237 rfl) rfl
theorem q1057 : (Jvm.Cond.code ({ cls := "java/lang/StringLatin1", name := "hashCode", desc := "([B)I" } : Jvm.MethodName) prog_49_method_21_code (1 : Nat) (Option.some Jvm.ClassFile.FieldType.int)) ∈ lw_all := lw_g (lw_at lw_m4 238 rfl) rfl
theorem q1058 : (Jvm.Cond.methodLink "java/lang/StringLatin1" (84 : Nat) ({ cls := "jdk/internal/util/ArraysSupport", name := "vectorizedHashCode", desc := "(Ljava/lang/Object;IIII)I" } : Jvm.MethodName)) ∈ lw_all := lw_g (lw_at lw_m4 239 rfl) rfl
theorem q1115 : (Jvm.Cond.static ({ cls := "java/lang/StringLatin1", name := "equals", desc := "([B[B)Z" } : Jvm.MethodName)) ∈ lw_all := lw_g (lw_at lw_m5 56 rfl) rfl
theorem q1116 : (Jvm.Cond.code ({ cls := "java/lang/StringLatin1", name := "equals", desc := "([B[B)Z" } : Jvm.MethodName) prog_49_method_13_code (3 : Nat) (Option.some Jvm.ClassFile.FieldType.boolean)) ∈ lw_all := lw_g (lw_at lw_m5 57 rfl) rfl
/-! java/lang/Integer -/
def RJ16 : String := "java/lang/Integer"
abbrev cJ16_stringSize : ByteArray := prog_42_method_13_code
def yJ16_stringSize : MethodName := ⟨RJ16, "stringSize", "(I)I"⟩
abbrev cJ16_getChars : ByteArray := prog_42_method_12_code
def yJ16_getChars : MethodName := ⟨RJ16, "getChars", "(II[B)I"⟩
abbrev cJ16_bitCount : ByteArray := prog_42_method_49_code
def yJ16_bitCount : MethodName := ⟨RJ16, "bitCount", "(I)I"⟩
theorem q120 : (Jvm.Cond.initialized "java/lang/Integer") ∈ lw_all := lw_g (lw_at lw_m1 21 rfl) rfl
theorem q386 : (Jvm.Cond.static ({ cls := "java/lang/Integer", name := "stringSize", desc := "(I)I" } : Jvm.MethodName)) ∈ lw_all := lw_g (lw_at lw_m2 47 rfl) rfl
theorem q387 : (Jvm.Cond.code ({ cls := "java/lang/Integer", name := "stringSize", desc := "(I)I" } : Jvm.MethodName) prog_42_method_13_code (4 : Nat) (Option.some Jvm.ClassFile.FieldType.int)) ∈ lw_all := lw_g (lw_at lw_m2 48 rfl) rfl
theorem q389 : (Jvm.Cond.static ({ cls := "java/lang/Integer", name := "getChars", desc := "(II[B)I" } : Jvm.MethodName)) ∈ lw_all := lw_g (lw_at lw_m2 50 rfl) rfl
theorem q390 : (Jvm.Cond.code ({ cls := "java/lang/Integer", name := "getChars", desc := "(II[B)I" } : Jvm.MethodName) prog_42_method_12_code (7 : Nat) (Option.some Jvm.ClassFile.FieldType.int)) ∈ lw_all := lw_g (lw_at lw_m2 51 rfl) rfl
theorem q391 : (Jvm.Cond.fieldLink "java/lang/Integer" (83 : Nat) "java/lang/Integer" "DigitOnes" "[B") ∈ lw_all := lw_g (lw_at lw_m2 52 rfl) rfl
theorem q392 : (Jvm.Cond.laysStatic "java/lang/Integer" "DigitOnes" "[B") ∈ lw_tbl := lw_at lw_m2 53 rfl
theorem q393 : (Jvm.Cond.fieldLink "java/lang/Integer" (87 : Nat) "java/lang/Integer" "DigitTens" "[B") ∈ lw_all := lw_g (lw_at lw_m2 54 rfl) rfl
theorem q394 : (Jvm.Cond.laysStatic "java/lang/Integer" "DigitTens" "[B") ∈ lw_tbl := lw_at lw_m2 55 rfl
theorem q847 : (Jvm.Cond.static ({ cls := "java/lang/Integer", name := "bitCount", desc := "(I)I" } : Jvm.MethodName)) ∈ lw_all := lw_g (lw_at lw_m4 28 rfl) rfl
theorem q848 : (Jvm.Cond.code ({ cls := "java/lang/Integer", name := "bitCount", desc := "(I)I" } : Jvm.MethodName) prog_42_method_49_code (1 : Nat) (Option.some Jvm.ClassFile.FieldType.int)) ∈ lw_all := lw_g (lw_at lw_m4 29 rfl) rfl
theorem q849 : (Jvm.Cond.constant "java/lang/Integer" (265 : Nat) (1431655765 : Int32)) ∈ lw_all := lw_g (lw_at lw_m4 30 rfl) rfl
theorem q850 : (Jvm.Cond.constant "java/lang/Integer" (266 : Nat) (858993459 : Int32)) ∈ lw_all := lw_g (lw_at lw_m4 31 rfl) rfl
theorem q851 : (Jvm.Cond.constant "java/lang/Integer" (267 : Nat) (252645135 : Int32)) ∈ lw_all := lw_g (lw_at lw_m4 32 rfl) rfl
/-! java/util/Objects -/
def RJ17 : String := "java/util/Objects"
abbrev cJ17_checkIndex : ByteArray := prog_63_method_17_code
def yJ17_checkIndex : MethodName := ⟨RJ17, "checkIndex", "(II)I"⟩
theorem q150 : (Jvm.Cond.initialized "java/util/Objects") ∈ lw_all := lw_g (lw_at lw_m1 51 rfl) rfl
theorem q778 : (Jvm.Cond.static ({ cls := "java/util/Objects", name := "checkIndex", desc := "(II)I" } : Jvm.MethodName)) ∈ lw_all := lw_g (lw_at lw_m3 199 rfl) rfl
theorem q779 : (Jvm.Cond.code ({ cls := "java/util/Objects", name := "checkIndex", desc := "(II)I" } : Jvm.MethodName) prog_63_method_17_code (2 : Nat) (Option.some Jvm.ClassFile.FieldType.int)) ∈ lw_all := lw_g (lw_at lw_m3 200 rfl) rfl
theorem q780 : (Jvm.Cond.methodLink "java/util/Objects" (105 : Nat) ({ cls := "jdk/internal/util/Preconditions", name := "checkIndex", desc := "(IILjava/util/function/BiFunction;)I" } : Jvm.MethodName)) ∈ lw_all := lw_g (lw_at lw_m3 201 rfl) rfl
/-! java/util/NoSuchElementException -/
def RJ18 : String := "java/util/NoSuchElementException"
def TJ18 : u_T := fun k => match k with
  | 0 => ("java/lang/Throwable", "cause", "Ljava/lang/Throwable;", false)
  | 1 => ("java/lang/Throwable", "stackTrace", "[Ljava/lang/StackTraceElement;", false)
  | 2 => ("java/lang/Throwable", "suppressedExceptions", "Ljava/util/List;", false)
  | 3 => ("java/lang/Throwable", "detailMessage", "Ljava/lang/String;", false)
  | 4 => ("java/lang/Throwable", "backtrace", "Ljava/lang/Object;", false)
  | _ => ("java/lang/Throwable", "depth", "I", false)
def tyJ18 : Nat → FieldType := fun k => match k with
  | 0 => .object "java/lang/Throwable"
  | 1 => .array (.object "java/lang/StackTraceElement")
  | 2 => .object "java/util/List"
  | 3 => .object "java/lang/String"
  | 4 => .object "java/lang/Object"
  | _ => .int
abbrev wsJ180 : List Cond := u_ws RJ18 TJ18 6
theorem nmJ18 : ∀ a, a < 6 → ∀ b, b < 6 → a ≠ b → (TJ18 a).2.1 ≠ (TJ18 b).2.1 := by decide +kernel
theorem tyJ18_ok : ∀ k, k < 6 → parseFieldDescriptor (TJ18 k).2.2.1 = some (tyJ18 k) := by decide +kernel
abbrev cJ18_init : ByteArray := prog_62_method_1_code
def yJ18_init : MethodName := ⟨RJ18, "<init>", "()V"⟩
theorem q152 : (Jvm.Cond.initialized "java/util/NoSuchElementException") ∈ lw_all := lw_g (lw_at lw_m1 53 rfl) rfl
theorem q217 : (Jvm.Cond.selects "java/util/NoSuchElementException" ({ cls := "java/lang/Throwable", name := "fillInStackTrace", desc := "()Ljava/lang/Throwable;" } : Jvm.MethodName) ({ cls := "java/lang/Throwable", name := "fillInStackTrace", desc := "()Ljava/lang/Throwable;" } : Jvm.MethodName)) ∈ lw_all := lw_g (lw_at lw_m1 118 rfl) rfl
theorem q1255 : (Jvm.Cond.selects "java/util/NoSuchElementException" ({ cls := "java/lang/Object", name := "getClass", desc := "()Ljava/lang/Class;" } : Jvm.MethodName) ({ cls := "java/lang/Object", name := "getClass", desc := "()Ljava/lang/Class;" } : Jvm.MethodName)) ∈ lw_all := lw_g (lw_at lw_m5 196 rfl) rfl
theorem q1731 : (Jvm.Cond.instantiable "java/util/NoSuchElementException" (6 : Nat)) ∈ lw_all := lw_g (lw_at lw_m7 192 rfl) rfl
theorem q1732 : (Jvm.Cond.castable "java/util/NoSuchElementException" "java/util/NoSuchElementException") ∈ lw_tbl := lw_at lw_m7 193 rfl
theorem q1733 : (Jvm.Cond.selects "java/util/NoSuchElementException" ({ cls := "java/lang/Throwable", name := "fillInStackTrace", desc := "(I)Ljava/lang/Throwable;" } : Jvm.MethodName) ({ cls := "java/lang/Throwable", name := "fillInStackTrace", desc := "(I)Ljava/lang/Throwable;" } : Jvm.MethodName)) ∈ lw_all := lw_g (lw_at lw_m7 194 rfl) rfl
theorem q1734 : (Jvm.Cond.lays "java/util/NoSuchElementException" "java/lang/Throwable" "cause" "Ljava/lang/Throwable;") ∈ lw_all := lw_g (lw_at lw_m7 195 rfl) rfl
theorem q1735 : (Jvm.Cond.lays "java/util/NoSuchElementException" "java/lang/Throwable" "stackTrace" "[Ljava/lang/StackTraceElement;") ∈ lw_all := lw_g (lw_at lw_m7 196 rfl) rfl
theorem q1736 : (Jvm.Cond.lays "java/util/NoSuchElementException" "java/lang/Throwable" "suppressedExceptions" "Ljava/util/List;") ∈ lw_all := lw_g (lw_at lw_m7 197 rfl) rfl
theorem q1737 : (Jvm.Cond.lays "java/util/NoSuchElementException" "java/lang/Throwable" "detailMessage" "Ljava/lang/String;") ∈ lw_all := lw_g (lw_at lw_m7 198 rfl) rfl
theorem q1738 : (Jvm.Cond.lays "java/util/NoSuchElementException" "java/lang/Throwable" "backtrace" "Ljava/lang/Object;") ∈ lw_all := lw_g (lw_at lw_m7 199 rfl) rfl
theorem q1740 : (Jvm.Cond.instanceMethod ({ cls := "java/util/NoSuchElementException", name := "<init>", desc := "()V" } : Jvm.MethodName)) ∈ lw_all := lw_g (lw_at lw_m7 201 rfl) rfl
theorem q1741 : (Jvm.Cond.code ({ cls := "java/util/NoSuchElementException", name := "<init>", desc := "()V" } : Jvm.MethodName) prog_62_method_1_code (1 : Nat) (Option.none : Option Jvm.ClassFile.FieldType)) ∈ lw_all := lw_g (lw_at lw_m7 202 rfl) rfl
theorem q1742 : (Jvm.Cond.methodLink "java/util/NoSuchElementException" (1 : Nat) ({ cls := "java/lang/RuntimeException", name := "<init>", desc := "()V" } : Jvm.MethodName)) ∈ lw_all := lw_g (lw_at lw_m7 203 rfl) rfl
theorem q1743 : (Jvm.Cond.lays "java/util/NoSuchElementException" "java/lang/Throwable" "depth" "I") ∈ lw_all := lw_g (lw_at lw_m7 204 rfl) rfl
theorem q1744 : (Jvm.Cond.superclass "java/util/NoSuchElementException" "java/lang/RuntimeException") ∈ lw_all := lw_g (lw_at lw_m7 205 rfl) rfl
theorem q2638 : (Jvm.Cond.castable "java/util/NoSuchElementException" "java/lang/Object") ∈ lw_tbl := lw_at lw_m11 139 rfl
theorem in_J18 : ∀ w ∈ wsJ180, w ∈ lw_all := lw_in wsJ180 [1734, 1735, 1736, 1737, 1738, 1743] (by decide +kernel) (by decide +kernel)
/-! java/lang/Object -/
def RJ19 : String := "java/lang/Object"
abbrev cJ19_init : ByteArray := object_method_1_code
def yJ19_init : MethodName := ⟨RJ19, "<init>", "()V"⟩
theorem q159 : (Jvm.Cond.instanceMethod ({ cls := "java/lang/Object", name := "<init>", desc := "()V" } : Jvm.MethodName)) ∈ lw_all := lw_g (lw_at lw_m1 60 rfl) rfl
theorem q160 : (Jvm.Cond.code ({ cls := "java/lang/Object", name := "<init>", desc := "()V" } : Jvm.MethodName) object_method_1_code (1 : Nat) (Option.none : Option Jvm.ClassFile.FieldType)) ∈ lw_all := lw_g (lw_at lw_m1 61 rfl) rfl
theorem q293 : (Jvm.Cond.native ({ cls := "java/lang/Object", name := "clone", desc := "()Ljava/lang/Object;" } : Jvm.MethodName)) ∈ lw_all := lw_g (lw_at lw_m1 194 rfl) rfl
theorem q294 : (Jvm.Cond.instanceMethod ({ cls := "java/lang/Object", name := "clone", desc := "()Ljava/lang/Object;" } : Jvm.MethodName)) ∈ lw_all := lw_g (lw_at lw_m1 195 rfl) rfl
theorem q1221 : (Jvm.Cond.instanceMethod ({ cls := "java/lang/Object", name := "getClass", desc := "()Ljava/lang/Class;" } : Jvm.MethodName)) ∈ lw_all := lw_g (lw_at lw_m5 162 rfl) rfl
theorem q1222 : (Jvm.Cond.sameMethod "java/lang/Object" "java/lang/Object" "getClass" "()Ljava/lang/Class;") ∈ lw_all := lw_g (lw_at lw_m5 163 rfl) rfl
theorem q1256 : (Jvm.Cond.native ({ cls := "java/lang/Object", name := "getClass", desc := "()Ljava/lang/Class;" } : Jvm.MethodName)) ∈ lw_all := lw_g (lw_at lw_m5 197 rfl) rfl
theorem q2598 : (Jvm.Cond.initialized "java/lang/Object") ∈ lw_all := lw_g (lw_at lw_m11 99 rfl) rfl
theorem q2642 : (Jvm.Cond.declares ({ cls := "java/lang/Object", name := "getClass", desc := "()Ljava/lang/Class;" } : Jvm.MethodName)) ∈ lw_tbl := lw_at lw_m11 143 rfl
/-! java/lang/System$2 -/
def RJ20 : String := "java/lang/System$2"
abbrev cJ20_getUTF16Char : ByteArray := prog_52_method_45_code
def yJ20_getUTF16Char : MethodName := ⟨RJ20, "getUTF16Char", "([BI)C"⟩
theorem q1074 : (Jvm.Cond.castable "java/lang/System$2" "jdk/internal/access/JavaLangAccess") ∈ lw_tbl := lw_at lw_m5 15 rfl
theorem q1075 : (Jvm.Cond.selects "java/lang/System$2" ({ cls := "jdk/internal/access/JavaLangAccess", name := "getUTF16Char", desc := "([BI)C" } : Jvm.MethodName) ({ cls := "java/lang/System$2", name := "getUTF16Char", desc := "([BI)C" } : Jvm.MethodName)) ∈ lw_all := lw_g (lw_at lw_m5 16 rfl) rfl
theorem q1076 : (Jvm.Cond.unhidden "java/lang/System$2" "getUTF16Char" "([BI)C") ∈ lw_tbl := lw_at lw_m5 17 rfl
theorem q1077 : (Jvm.Cond.instanceMethod ({ cls := "java/lang/System$2", name := "getUTF16Char", desc := "([BI)C" } : Jvm.MethodName)) ∈ lw_all := lw_g (lw_at lw_m5 18 rfl) rfl
theorem q1078 : (Jvm.Cond.publicMethod ({ cls := "java/lang/System$2", name := "getUTF16Char", desc := "([BI)C" } : Jvm.MethodName)) ∈ lw_tbl := lw_at lw_m5 19 rfl
theorem q1079 : (Jvm.Cond.code ({ cls := "java/lang/System$2", name := "getUTF16Char", desc := "([BI)C" } : Jvm.MethodName) prog_52_method_45_code (3 : Nat) (Option.some Jvm.ClassFile.FieldType.char)) ∈ lw_all := lw_g (lw_at lw_m5 20 rfl) rfl
theorem q1080 : (Jvm.Cond.methodLink "java/lang/System$2" (185 : Nat) ({ cls := "java/lang/StringUTF16", name := "getChar", desc := "([BI)C" } : Jvm.MethodName)) ∈ lw_all := lw_g (lw_at lw_m5 21 rfl) rfl
theorem q1253 : (Jvm.Cond.selects "java/lang/System$2" ({ cls := "java/lang/Object", name := "getClass", desc := "()Ljava/lang/Class;" } : Jvm.MethodName) ({ cls := "java/lang/Object", name := "getClass", desc := "()Ljava/lang/Class;" } : Jvm.MethodName)) ∈ lw_all := lw_g (lw_at lw_m5 194 rfl) rfl
theorem q2620 : (Jvm.Cond.castable "java/lang/System$2" "java/lang/Object") ∈ lw_tbl := lw_at lw_m11 121 rfl
theorem q292 : (Jvm.Cond.sameMethod "[B" "java/lang/Object" "clone" "()Ljava/lang/Object;") ∈ lw_all := lw_g (lw_at lw_m1 193 rfl) rfl
theorem q295 : (Jvm.Cond.selects "[B" ({ cls := "[B", name := "clone", desc := "()Ljava/lang/Object;" } : Jvm.MethodName) ({ cls := "java/lang/Object", name := "clone", desc := "()Ljava/lang/Object;" } : Jvm.MethodName)) ∈ lw_all := lw_g (lw_at lw_m1 196 rfl) rfl
theorem q296 : (Jvm.Cond.castable "[B" "java/lang/Cloneable") ∈ lw_tbl := lw_at lw_m1 197 rfl
theorem q2645 : (Jvm.Cond.castable "[B" "java/lang/Object") ∈ lw_tbl := lw_at lw_m11 146 rfl
theorem q2644 : (Jvm.Cond.castable "[I" "java/lang/Object") ∈ lw_tbl := lw_at lw_m11 145 rfl
theorem q2648 : (Jvm.Cond.castable "[J" "java/lang/Object") ∈ lw_tbl := lw_at lw_m11 149 rfl
theorem q2646 : (Jvm.Cond.castable "[LRelicHouse$House;" "java/lang/Object") ∈ lw_tbl := lw_at lw_m11 147 rfl
theorem q2640 : (Jvm.Cond.sameMethod "[Ljava/lang/Object;" "java/lang/Object" "getClass" "()Ljava/lang/Class;") ∈ lw_all := lw_g (lw_at lw_m11 141 rfl) rfl
theorem q2641 : (Jvm.Cond.selects "[Ljava/lang/Object;" ({ cls := "java/lang/Object", name := "getClass", desc := "()Ljava/lang/Class;" } : Jvm.MethodName) ({ cls := "java/lang/Object", name := "getClass", desc := "()Ljava/lang/Class;" } : Jvm.MethodName)) ∈ lw_all := lw_g (lw_at lw_m11 142 rfl) rfl
theorem q2643 : (Jvm.Cond.castable "[Ljava/lang/Object;" "java/lang/Object") ∈ lw_tbl := lw_at lw_m11 144 rfl
theorem q2647 : (Jvm.Cond.castable "[[I" "java/lang/Object") ∈ lw_tbl := lw_at lw_m11 148 rfl
theorem q119 : (Jvm.Cond.initialized "java/lang/Number") ∈ lw_all := lw_g (lw_at lw_m1 20 rfl) rfl
theorem q116 : (Jvm.Cond.initialized "java/lang/System") ∈ lw_all := lw_g (lw_at lw_m1 17 rfl) rfl
theorem q302 : (Jvm.Cond.static ({ cls := "java/lang/System", name := "arraycopy", desc := "(Ljava/lang/Object;ILjava/lang/Object;II)V" } : Jvm.MethodName)) ∈ lw_all := lw_g (lw_at lw_m1 203 rfl) rfl
theorem q303 : (Jvm.Cond.native ({ cls := "java/lang/System", name := "arraycopy", desc := "(Ljava/lang/Object;ILjava/lang/Object;II)V" } : Jvm.MethodName)) ∈ lw_all := lw_g (lw_at lw_m1 204 rfl) rfl
theorem q1072 : (Jvm.Cond.interfaceMethod "jdk/internal/access/JavaLangAccess" "jdk/internal/access/JavaLangAccess" "getUTF16Char" "([BI)C") ∈ lw_tbl := lw_at lw_m5 13 rfl
theorem q1073 : (Jvm.Cond.declares ({ cls := "jdk/internal/access/JavaLangAccess", name := "getUTF16Char", desc := "([BI)C" } : Jvm.MethodName)) ∈ lw_tbl := lw_at lw_m5 14 rfl
theorem q180 : (Jvm.Cond.arrayOver (Jvm.ClassFile.FieldType.object "java/lang/Object")) ∈ lw_tbl := lw_at lw_m1 81 rfl
theorem q255 : (Jvm.Cond.arrayClass Jvm.ClassFile.FieldType.int) ∈ lw_all := lw_g (lw_at lw_m1 156 rfl) rfl
theorem q256 : (Jvm.Cond.arrayClass Jvm.ClassFile.FieldType.byte) ∈ lw_all := lw_g (lw_at lw_m1 157 rfl) rfl
theorem q650 : (Jvm.Cond.arrayOver (Jvm.ClassFile.FieldType.object "RelicHouse$House")) ∈ lw_tbl := lw_at lw_m3 71 rfl
theorem q1984 : (Jvm.Cond.arrayOver (Jvm.ClassFile.FieldType.array Jvm.ClassFile.FieldType.int)) ∈ lw_tbl := lw_at lw_m8 205 rfl
theorem q2576 : (Jvm.Cond.arrayClass Jvm.ClassFile.FieldType.long) ∈ lw_all := lw_g (lw_at lw_m11 77 rfl) rfl
theorem q2649 : (Jvm.Cond.arrayClass Jvm.ClassFile.FieldType.char) ∈ lw_all := lw_g (lw_at lw_m11 150 rfl) rfl
theorem q2650 : (Jvm.Cond.arrayClass Jvm.ClassFile.FieldType.short) ∈ lw_all := lw_g (lw_at lw_m11 151 rfl) rfl
abbrev cL_law : ByteArray := code
/-- the classes, by their numbers (X0, X3, X4, X12, X23, X24 have no objects: RelicHouse stands there) -/
def gCl : List vw_C := [(RX1, TX1, 25), (RX1, TX1, 25), (RX2, TX2, 6), (RX1, TX1, 25), (RX1, TX1, 25), (RX5, TX5, 2), (RX6, TX6, 2), (RX7, TX7, 1), (RX8, TX8, 2), (RX9, TX9, 1), (RX10, TX10, 10), (RX11, TX11, 49), (RX1, TX1, 25), (RX13, TX13, 6), (RX14, TX14, 8), (RX15, TX15, 3), (RX16, TX16, 2), (RX17, TX17, 5), (RX18, TX18, 2), (RX19, TX19, 2), (RX20, TX20, 2), (RX21, TX21, 2), (RX22, TX22, 6), (RX1, TX1, 25), (RX1, TX1, 25), (RX25, TX25, 1), (RX26, TX26, 1), (RX27, TX27, 1), (RX28, TX28, 2), (RX29, TX29, 1), (RX30, TX9, 0), (RX31, TX31, 2), (RX32, TX32, 8), (RJ2, TJ2, 3), (RJ6, TJ6, 6), (RJ18, TJ18, 6), (RJ8, TJ8, 4), (RJ9, TJ9, 4), (RJ6, TJ6, 0), (RJ18, TJ18, 0)]
