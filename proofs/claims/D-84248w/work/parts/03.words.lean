set_option maxRecDepth 100000
theorem q29 : (Jvm.Cond.initialized "ChequeDeskLaw") ∈ lw_all := lw_g (lw_at lw_m1 0 rfl) rfl
theorem q63 : (Jvm.Cond.classLink "ChequeDeskLaw" (8 : Nat) "ChequeDesk") ∈ lw_all := lw_g (lw_at lw_m1 34 rfl) rfl
theorem q65 : (Jvm.Cond.methodLink "ChequeDeskLaw" (55 : Nat) ({ cls := "ChequeDesk", name := "<init>", desc := "()V" } : Jvm.MethodName)) ∈ lw_all := lw_g (lw_at lw_m1 36 rfl) rfl
theorem q448 : (Jvm.Cond.methodLink "ChequeDeskLaw" (73 : Nat) ({ cls := "ChequeDesk", name := "read", desc := "()I" } : Jvm.MethodName)) ∈ lw_all := lw_g (lw_at lw_m2 179 rfl) rfl
theorem q593 : (Jvm.Cond.methodLink "ChequeDeskLaw" (86 : Nat) ({ cls := "ChequeDesk", name := "others", desc := "()I" } : Jvm.MethodName)) ∈ lw_all := lw_g (lw_at lw_m3 84 rfl) rfl
theorem q601 : (Jvm.Cond.methodLink "ChequeDeskLaw" (93 : Nat) ({ cls := "ChequeDesk", name := "choose", desc := "(I)I" } : Jvm.MethodName)) ∈ lw_all := lw_g (lw_at lw_m3 92 rfl) rfl
theorem q620 : (Jvm.Cond.methodLink "ChequeDeskLaw" (106 : Nat) ({ cls := "ChequeDesk", name := "twin", desc := "()I" } : Jvm.MethodName)) ∈ lw_all := lw_g (lw_at lw_m3 111 rfl) rfl
theorem q642 : (Jvm.Cond.methodLink "ChequeDeskLaw" (120 : Nat) ({ cls := "ChequeDesk", name := "count", desc := "(I)I" } : Jvm.MethodName)) ∈ lw_all := lw_g (lw_at lw_m3 133 rfl) rfl
theorem q646 : (Jvm.Cond.methodLink "ChequeDeskLaw" (59 : Nat) ({ cls := "ChequeDeskLaw", name := "teach", desc := "(LChequeDesk;II[J)I" } : Jvm.MethodName)) ∈ lw_all := lw_g (lw_at lw_m3 137 rfl) rfl
theorem q647 : (Jvm.Cond.static ({ cls := "ChequeDeskLaw", name := "teach", desc := "(LChequeDesk;II[J)I" } : Jvm.MethodName)) ∈ lw_all := lw_g (lw_at lw_m3 138 rfl) rfl
theorem q648 : (Jvm.Cond.codeWith ({ cls := "ChequeDeskLaw", name := "teach", desc := "(LChequeDesk;II[J)I" } : Jvm.MethodName) method_3_code (5 : Nat) (Option.some Jvm.ClassFile.FieldType.int) [((0 : Nat), (10 : Nat), (13 : Nat), (13 : Nat))]) ∈ lw_all := lw_g (lw_at lw_m3 139 rfl) rfl
theorem q649 : (Jvm.Cond.classLink "ChequeDeskLaw" (13 : Nat) "java/lang/IllegalArgumentException") ∈ lw_all := lw_g (lw_at lw_m3 140 rfl) rfl
theorem q650 : (Jvm.Cond.methodLink "ChequeDeskLaw" (7 : Nat) ({ cls := "ChequeDesk", name := "teach", desc := "(II)I" } : Jvm.MethodName)) ∈ lw_all := lw_g (lw_at lw_m3 141 rfl) rfl
theorem q670 : (Jvm.Cond.methodLink "ChequeDeskLaw" (69 : Nat) ({ cls := "ChequeDeskLaw", name := "tick", desc := "(LChequeDesk;I[J)I" } : Jvm.MethodName)) ∈ lw_all := lw_g (lw_at lw_m3 161 rfl) rfl
theorem q671 : (Jvm.Cond.static ({ cls := "ChequeDeskLaw", name := "tick", desc := "(LChequeDesk;I[J)I" } : Jvm.MethodName)) ∈ lw_all := lw_g (lw_at lw_m3 162 rfl) rfl
theorem q672 : (Jvm.Cond.codeWith ({ cls := "ChequeDeskLaw", name := "tick", desc := "(LChequeDesk;I[J)I" } : Jvm.MethodName) method_4_code (4 : Nat) (Option.some Jvm.ClassFile.FieldType.int) [((0 : Nat), (9 : Nat), (12 : Nat), (13 : Nat))]) ∈ lw_all := lw_g (lw_at lw_m3 163 rfl) rfl
theorem q673 : (Jvm.Cond.methodLink "ChequeDeskLaw" (15 : Nat) ({ cls := "ChequeDesk", name := "tick", desc := "(I)I" } : Jvm.MethodName)) ∈ lw_all := lw_g (lw_at lw_m3 164 rfl) rfl
theorem q677 : (Jvm.Cond.methodLink "ChequeDeskLaw" (77 : Nat) ({ cls := "ChequeDeskLaw", name := "about", desc := "(LChequeDesk;I[J)I" } : Jvm.MethodName)) ∈ lw_all := lw_g (lw_at lw_m3 168 rfl) rfl
theorem q678 : (Jvm.Cond.static ({ cls := "ChequeDeskLaw", name := "about", desc := "(LChequeDesk;I[J)I" } : Jvm.MethodName)) ∈ lw_all := lw_g (lw_at lw_m3 169 rfl) rfl
theorem q679 : (Jvm.Cond.codeWith ({ cls := "ChequeDeskLaw", name := "about", desc := "(LChequeDesk;I[J)I" } : Jvm.MethodName) method_5_code (4 : Nat) (Option.some Jvm.ClassFile.FieldType.int) [((0 : Nat), (9 : Nat), (12 : Nat), (13 : Nat))]) ∈ lw_all := lw_g (lw_at lw_m3 170 rfl) rfl
theorem q680 : (Jvm.Cond.methodLink "ChequeDeskLaw" (19 : Nat) ({ cls := "ChequeDesk", name := "about", desc := "(I)I" } : Jvm.MethodName)) ∈ lw_all := lw_g (lw_at lw_m3 171 rfl) rfl
theorem q684 : (Jvm.Cond.methodLink "ChequeDeskLaw" (80 : Nat) ({ cls := "ChequeDeskLaw", name := "place", desc := "(LChequeDesk;II[J)I" } : Jvm.MethodName)) ∈ lw_all := lw_g (lw_at lw_m3 175 rfl) rfl
theorem q685 : (Jvm.Cond.static ({ cls := "ChequeDeskLaw", name := "place", desc := "(LChequeDesk;II[J)I" } : Jvm.MethodName)) ∈ lw_all := lw_g (lw_at lw_m3 176 rfl) rfl
theorem q686 : (Jvm.Cond.codeWith ({ cls := "ChequeDeskLaw", name := "place", desc := "(LChequeDesk;II[J)I" } : Jvm.MethodName) method_6_code (5 : Nat) (Option.some Jvm.ClassFile.FieldType.int) [((0 : Nat), (10 : Nat), (13 : Nat), (13 : Nat))]) ∈ lw_all := lw_g (lw_at lw_m3 177 rfl) rfl
theorem q687 : (Jvm.Cond.methodLink "ChequeDeskLaw" (22 : Nat) ({ cls := "ChequeDesk", name := "place", desc := "(II)I" } : Jvm.MethodName)) ∈ lw_all := lw_g (lw_at lw_m3 178 rfl) rfl
theorem q691 : (Jvm.Cond.methodLink "ChequeDeskLaw" (83 : Nat) ({ cls := "ChequeDeskLaw", name := "field", desc := "(LChequeDesk;I[J)I" } : Jvm.MethodName)) ∈ lw_all := lw_g (lw_at lw_m3 182 rfl) rfl
theorem q692 : (Jvm.Cond.static ({ cls := "ChequeDeskLaw", name := "field", desc := "(LChequeDesk;I[J)I" } : Jvm.MethodName)) ∈ lw_all := lw_g (lw_at lw_m3 183 rfl) rfl
theorem q693 : (Jvm.Cond.codeWith ({ cls := "ChequeDeskLaw", name := "field", desc := "(LChequeDesk;I[J)I" } : Jvm.MethodName) method_7_code (4 : Nat) (Option.some Jvm.ClassFile.FieldType.int) [((0 : Nat), (9 : Nat), (12 : Nat), (13 : Nat))]) ∈ lw_all := lw_g (lw_at lw_m3 184 rfl) rfl
theorem q694 : (Jvm.Cond.methodLink "ChequeDeskLaw" (25 : Nat) ({ cls := "ChequeDesk", name := "field", desc := "(I)I" } : Jvm.MethodName)) ∈ lw_all := lw_g (lw_at lw_m3 185 rfl) rfl
theorem q699 : (Jvm.Cond.methodLink "ChequeDeskLaw" (90 : Nat) ({ cls := "ChequeDeskLaw", name := "other", desc := "(LChequeDesk;II[J)I" } : Jvm.MethodName)) ∈ lw_all := lw_g (lw_at lw_m3 190 rfl) rfl
theorem q700 : (Jvm.Cond.static ({ cls := "ChequeDeskLaw", name := "other", desc := "(LChequeDesk;II[J)I" } : Jvm.MethodName)) ∈ lw_all := lw_g (lw_at lw_m3 191 rfl) rfl
theorem q701 : (Jvm.Cond.codeWith ({ cls := "ChequeDeskLaw", name := "other", desc := "(LChequeDesk;II[J)I" } : Jvm.MethodName) method_8_code (5 : Nat) (Option.some Jvm.ClassFile.FieldType.int) [((0 : Nat), (10 : Nat), (13 : Nat), (13 : Nat))]) ∈ lw_all := lw_g (lw_at lw_m3 192 rfl) rfl
theorem q702 : (Jvm.Cond.methodLink "ChequeDeskLaw" (28 : Nat) ({ cls := "ChequeDesk", name := "other", desc := "(II)I" } : Jvm.MethodName)) ∈ lw_all := lw_g (lw_at lw_m3 193 rfl) rfl
theorem q706 : (Jvm.Cond.methodLink "ChequeDeskLaw" (97 : Nat) ({ cls := "ChequeDeskLaw", name := "batch", desc := "(LChequeDesk;I[J)I" } : Jvm.MethodName)) ∈ lw_all := lw_g (lw_at lw_m3 197 rfl) rfl
theorem q707 : (Jvm.Cond.static ({ cls := "ChequeDeskLaw", name := "batch", desc := "(LChequeDesk;I[J)I" } : Jvm.MethodName)) ∈ lw_all := lw_g (lw_at lw_m3 198 rfl) rfl
theorem q708 : (Jvm.Cond.codeWith ({ cls := "ChequeDeskLaw", name := "batch", desc := "(LChequeDesk;I[J)I" } : Jvm.MethodName) method_9_code (4 : Nat) (Option.some Jvm.ClassFile.FieldType.int) [((0 : Nat), (9 : Nat), (12 : Nat), (13 : Nat)), ((0 : Nat), (9 : Nat), (15 : Nat), (34 : Nat))]) ∈ lw_all := lw_g (lw_at lw_m3 199 rfl) rfl
theorem q709 : (Jvm.Cond.classLink "ChequeDeskLaw" (34 : Nat) "java/lang/IllegalStateException") ∈ lw_all := lw_g (lw_at lw_m3 200 rfl) rfl
theorem q710 : (Jvm.Cond.methodLink "ChequeDeskLaw" (31 : Nat) ({ cls := "ChequeDesk", name := "batch", desc := "(I)I" } : Jvm.MethodName)) ∈ lw_all := lw_g (lw_at lw_m3 201 rfl) rfl
theorem q750 : (Jvm.Cond.methodLink "ChequeDeskLaw" (100 : Nat) ({ cls := "ChequeDeskLaw", name := "paper", desc := "(LChequeDesk;II[J)I" } : Jvm.MethodName)) ∈ lw_all := lw_g (lw_at lw_m4 1 rfl) rfl
theorem q751 : (Jvm.Cond.static ({ cls := "ChequeDeskLaw", name := "paper", desc := "(LChequeDesk;II[J)I" } : Jvm.MethodName)) ∈ lw_all := lw_g (lw_at lw_m4 2 rfl) rfl
theorem q752 : (Jvm.Cond.codeWith ({ cls := "ChequeDeskLaw", name := "paper", desc := "(LChequeDesk;II[J)I" } : Jvm.MethodName) method_10_code (5 : Nat) (Option.some Jvm.ClassFile.FieldType.int) [((0 : Nat), (10 : Nat), (13 : Nat), (39 : Nat)), ((0 : Nat), (10 : Nat), (17 : Nat), (13 : Nat))]) ∈ lw_all := lw_g (lw_at lw_m4 3 rfl) rfl
theorem q753 : (Jvm.Cond.classLink "ChequeDeskLaw" (39 : Nat) "java/lang/IndexOutOfBoundsException") ∈ lw_all := lw_g (lw_at lw_m4 4 rfl) rfl
theorem q772 : (Jvm.Cond.methodLink "ChequeDeskLaw" (36 : Nat) ({ cls := "ChequeDesk", name := "paper", desc := "(II)I" } : Jvm.MethodName)) ∈ lw_all := lw_g (lw_at lw_m4 23 rfl) rfl
theorem q826 : (Jvm.Cond.methodLink "ChequeDeskLaw" (103 : Nat) ({ cls := "ChequeDeskLaw", name := "amount", desc := "(LChequeDesk;II[J)I" } : Jvm.MethodName)) ∈ lw_all := lw_g (lw_at lw_m4 77 rfl) rfl
theorem q827 : (Jvm.Cond.static ({ cls := "ChequeDeskLaw", name := "amount", desc := "(LChequeDesk;II[J)I" } : Jvm.MethodName)) ∈ lw_all := lw_g (lw_at lw_m4 78 rfl) rfl
theorem q828 : (Jvm.Cond.codeWith ({ cls := "ChequeDeskLaw", name := "amount", desc := "(LChequeDesk;II[J)I" } : Jvm.MethodName) method_11_code (5 : Nat) (Option.some Jvm.ClassFile.FieldType.int) [((0 : Nat), (10 : Nat), (13 : Nat), (39 : Nat)), ((0 : Nat), (10 : Nat), (17 : Nat), (13 : Nat))]) ∈ lw_all := lw_g (lw_at lw_m4 79 rfl) rfl
theorem q829 : (Jvm.Cond.methodLink "ChequeDeskLaw" (41 : Nat) ({ cls := "ChequeDesk", name := "amount", desc := "(II)I" } : Jvm.MethodName)) ∈ lw_all := lw_g (lw_at lw_m4 80 rfl) rfl
theorem q833 : (Jvm.Cond.methodLink "ChequeDeskLaw" (110 : Nat) ({ cls := "ChequeDeskLaw", name := "out", desc := "(LChequeDesk;I[J)I" } : Jvm.MethodName)) ∈ lw_all := lw_g (lw_at lw_m4 84 rfl) rfl
theorem q834 : (Jvm.Cond.static ({ cls := "ChequeDeskLaw", name := "out", desc := "(LChequeDesk;I[J)I" } : Jvm.MethodName)) ∈ lw_all := lw_g (lw_at lw_m4 85 rfl) rfl
theorem q835 : (Jvm.Cond.codeWith ({ cls := "ChequeDeskLaw", name := "out", desc := "(LChequeDesk;I[J)I" } : Jvm.MethodName) method_12_code (4 : Nat) (Option.some Jvm.ClassFile.FieldType.int) [((0 : Nat), (8 : Nat), (11 : Nat), (39 : Nat))]) ∈ lw_all := lw_g (lw_at lw_m4 86 rfl) rfl
theorem q836 : (Jvm.Cond.methodLink "ChequeDeskLaw" (44 : Nat) ({ cls := "ChequeDesk", name := "out", desc := "(I)J" } : Jvm.MethodName)) ∈ lw_all := lw_g (lw_at lw_m4 87 rfl) rfl
theorem q845 : (Jvm.Cond.methodLink "ChequeDeskLaw" (113 : Nat) ({ cls := "ChequeDeskLaw", name := "slips", desc := "(LChequeDesk;I[J)I" } : Jvm.MethodName)) ∈ lw_all := lw_g (lw_at lw_m4 96 rfl) rfl
theorem q846 : (Jvm.Cond.static ({ cls := "ChequeDeskLaw", name := "slips", desc := "(LChequeDesk;I[J)I" } : Jvm.MethodName)) ∈ lw_all := lw_g (lw_at lw_m4 97 rfl) rfl
theorem q847 : (Jvm.Cond.codeWith ({ cls := "ChequeDeskLaw", name := "slips", desc := "(LChequeDesk;I[J)I" } : Jvm.MethodName) method_13_code (4 : Nat) (Option.some Jvm.ClassFile.FieldType.int) [((0 : Nat), (9 : Nat), (12 : Nat), (39 : Nat))]) ∈ lw_all := lw_g (lw_at lw_m4 98 rfl) rfl
theorem q848 : (Jvm.Cond.methodLink "ChequeDeskLaw" (48 : Nat) ({ cls := "ChequeDesk", name := "slips", desc := "(I)I" } : Jvm.MethodName)) ∈ lw_all := lw_g (lw_at lw_m4 99 rfl) rfl
theorem q906 : (Jvm.Cond.methodLink "ChequeDeskLaw" (116 : Nat) ({ cls := "ChequeDeskLaw", name := "slip", desc := "(LChequeDesk;III[J)I" } : Jvm.MethodName)) ∈ lw_all := lw_g (lw_at lw_m4 157 rfl) rfl
theorem q907 : (Jvm.Cond.static ({ cls := "ChequeDeskLaw", name := "slip", desc := "(LChequeDesk;III[J)I" } : Jvm.MethodName)) ∈ lw_all := lw_g (lw_at lw_m4 158 rfl) rfl
theorem q908 : (Jvm.Cond.codeWith ({ cls := "ChequeDeskLaw", name := "slip", desc := "(LChequeDesk;III[J)I" } : Jvm.MethodName) method_14_code (6 : Nat) (Option.some Jvm.ClassFile.FieldType.int) [((0 : Nat), (12 : Nat), (15 : Nat), (39 : Nat)), ((0 : Nat), (12 : Nat), (19 : Nat), (13 : Nat))]) ∈ lw_all := lw_g (lw_at lw_m4 159 rfl) rfl
theorem q909 : (Jvm.Cond.methodLink "ChequeDeskLaw" (51 : Nat) ({ cls := "ChequeDesk", name := "slip", desc := "(III)I" } : Jvm.MethodName)) ∈ lw_all := lw_g (lw_at lw_m4 160 rfl) rfl
theorem q927 : (Jvm.Cond.classLink "ChequeDeskLaw" (56 : Nat) "ChequeDeskModel") ∈ lw_all := lw_g (lw_at lw_m4 178 rfl) rfl
theorem q929 : (Jvm.Cond.methodLink "ChequeDeskLaw" (58 : Nat) ({ cls := "ChequeDeskModel", name := "<init>", desc := "()V" } : Jvm.MethodName)) ∈ lw_all := lw_g (lw_at lw_m4 180 rfl) rfl
theorem q1027 : (Jvm.Cond.methodLink "ChequeDeskLaw" (65 : Nat) ({ cls := "ChequeDeskModel", name := "thrown", desc := "()I" } : Jvm.MethodName)) ∈ lw_all := lw_g (lw_at lw_m5 38 rfl) rfl
theorem q1031 : (Jvm.Cond.methodLink "ChequeDeskLaw" (64 : Nat) ({ cls := "ChequeDeskModel", name := "teach", desc := "(II)I" } : Jvm.MethodName)) ∈ lw_all := lw_g (lw_at lw_m5 42 rfl) rfl
theorem q1041 : (Jvm.Cond.methodLink "ChequeDeskLaw" (72 : Nat) ({ cls := "ChequeDeskModel", name := "tick", desc := "(I)I" } : Jvm.MethodName)) ∈ lw_all := lw_g (lw_at lw_m5 52 rfl) rfl
theorem q1045 : (Jvm.Cond.methodLink "ChequeDeskLaw" (76 : Nat) ({ cls := "ChequeDeskModel", name := "read", desc := "()I" } : Jvm.MethodName)) ∈ lw_all := lw_g (lw_at lw_m5 56 rfl) rfl
theorem q1084 : (Jvm.Cond.methodLink "ChequeDeskLaw" (79 : Nat) ({ cls := "ChequeDeskModel", name := "about", desc := "(I)I" } : Jvm.MethodName)) ∈ lw_all := lw_g (lw_at lw_m5 95 rfl) rfl
theorem q1096 : (Jvm.Cond.methodLink "ChequeDeskLaw" (82 : Nat) ({ cls := "ChequeDeskModel", name := "place", desc := "(II)I" } : Jvm.MethodName)) ∈ lw_all := lw_g (lw_at lw_m5 107 rfl) rfl
theorem q1100 : (Jvm.Cond.methodLink "ChequeDeskLaw" (85 : Nat) ({ cls := "ChequeDeskModel", name := "field", desc := "(I)I" } : Jvm.MethodName)) ∈ lw_all := lw_g (lw_at lw_m5 111 rfl) rfl
theorem q1108 : (Jvm.Cond.methodLink "ChequeDeskLaw" (89 : Nat) ({ cls := "ChequeDeskModel", name := "others", desc := "()I" } : Jvm.MethodName)) ∈ lw_all := lw_g (lw_at lw_m5 119 rfl) rfl
theorem q1116 : (Jvm.Cond.methodLink "ChequeDeskLaw" (92 : Nat) ({ cls := "ChequeDeskModel", name := "other", desc := "(II)I" } : Jvm.MethodName)) ∈ lw_all := lw_g (lw_at lw_m5 127 rfl) rfl
theorem q1124 : (Jvm.Cond.methodLink "ChequeDeskLaw" (96 : Nat) ({ cls := "ChequeDeskModel", name := "choose", desc := "(I)I" } : Jvm.MethodName)) ∈ lw_all := lw_g (lw_at lw_m5 135 rfl) rfl
theorem q1128 : (Jvm.Cond.methodLink "ChequeDeskLaw" (99 : Nat) ({ cls := "ChequeDeskModel", name := "batch", desc := "(I)I" } : Jvm.MethodName)) ∈ lw_all := lw_g (lw_at lw_m5 139 rfl) rfl
theorem q1133 : (Jvm.Cond.methodLink "ChequeDeskLaw" (109 : Nat) ({ cls := "ChequeDeskModel", name := "twin", desc := "()I" } : Jvm.MethodName)) ∈ lw_all := lw_g (lw_at lw_m5 144 rfl) rfl
theorem q1141 : (Jvm.Cond.methodLink "ChequeDeskLaw" (102 : Nat) ({ cls := "ChequeDeskModel", name := "paper", desc := "(II)I" } : Jvm.MethodName)) ∈ lw_all := lw_g (lw_at lw_m5 152 rfl) rfl
theorem q1153 : (Jvm.Cond.methodLink "ChequeDeskLaw" (105 : Nat) ({ cls := "ChequeDeskModel", name := "amount", desc := "(II)I" } : Jvm.MethodName)) ∈ lw_all := lw_g (lw_at lw_m5 164 rfl) rfl
theorem q1157 : (Jvm.Cond.methodLink "ChequeDeskLaw" (112 : Nat) ({ cls := "ChequeDeskModel", name := "out", desc := "(I)J" } : Jvm.MethodName)) ∈ lw_all := lw_g (lw_at lw_m5 168 rfl) rfl
theorem q1165 : (Jvm.Cond.methodLink "ChequeDeskLaw" (115 : Nat) ({ cls := "ChequeDeskModel", name := "slips", desc := "(I)I" } : Jvm.MethodName)) ∈ lw_all := lw_g (lw_at lw_m5 176 rfl) rfl
theorem q1177 : (Jvm.Cond.methodLink "ChequeDeskLaw" (119 : Nat) ({ cls := "ChequeDeskModel", name := "slip", desc := "(III)I" } : Jvm.MethodName)) ∈ lw_all := lw_g (lw_at lw_m5 188 rfl) rfl
theorem q1181 : (Jvm.Cond.methodLink "ChequeDeskLaw" (123 : Nat) ({ cls := "ChequeDeskModel", name := "count", desc := "(I)I" } : Jvm.MethodName)) ∈ lw_all := lw_g (lw_at lw_m5 192 rfl) rfl
theorem q30 : (Jvm.Cond.initialized "ChequeDesk") ∈ lw_all := lw_g (lw_at lw_m1 1 rfl) rfl
theorem q64 : (Jvm.Cond.instantiable "ChequeDesk" (11 : Nat)) ∈ lw_all := lw_g (lw_at lw_m1 35 rfl) rfl
theorem q66 : (Jvm.Cond.instanceMethod ({ cls := "ChequeDesk", name := "<init>", desc := "()V" } : Jvm.MethodName)) ∈ lw_all := lw_g (lw_at lw_m1 37 rfl) rfl
theorem q67 : (Jvm.Cond.code ({ cls := "ChequeDesk", name := "<init>", desc := "()V" } : Jvm.MethodName) prog_1_method_1_code (1 : Nat) (Option.none : Option Jvm.ClassFile.FieldType)) ∈ lw_all := lw_g (lw_at lw_m1 38 rfl) rfl
theorem q68 : (Jvm.Cond.methodLink "ChequeDesk" (1 : Nat) ({ cls := "java/lang/Object", name := "<init>", desc := "()V" } : Jvm.MethodName)) ∈ lw_all := lw_g (lw_at lw_m1 39 rfl) rfl
theorem q71 : (Jvm.Cond.classLink "ChequeDesk" (30 : Nat) "java/util/ArrayList") ∈ lw_all := lw_g (lw_at lw_m1 42 rfl) rfl
theorem q73 : (Jvm.Cond.methodLink "ChequeDesk" (32 : Nat) ({ cls := "java/util/ArrayList", name := "<init>", desc := "(I)V" } : Jvm.MethodName)) ∈ lw_all := lw_g (lw_at lw_m1 44 rfl) rfl
theorem q414 : (Jvm.Cond.fieldLink "ChequeDesk" (9 : Nat) "ChequeDesk" "widths" "[I") ∈ lw_all := lw_g (lw_at lw_m2 145 rfl) rfl
theorem q415 : (Jvm.Cond.fieldLink "ChequeDesk" (13 : Nat) "ChequeDesk" "ticks" "[B") ∈ lw_all := lw_g (lw_at lw_m2 146 rfl) rfl
theorem q416 : (Jvm.Cond.fieldLink "ChequeDesk" (57 : Nat) "ChequeDesk" "ticked" "I") ∈ lw_all := lw_g (lw_at lw_m2 147 rfl) rfl
theorem q417 : (Jvm.Cond.fieldLink "ChequeDesk" (123 : Nat) "ChequeDesk" "reading" "LChequeDesk$Reading;") ∈ lw_all := lw_g (lw_at lw_m2 148 rfl) rfl
theorem q418 : (Jvm.Cond.fieldLink "ChequeDesk" (17 : Nat) "ChequeDesk" "costs" "[I") ∈ lw_all := lw_g (lw_at lw_m2 149 rfl) rfl
theorem q419 : (Jvm.Cond.fieldLink "ChequeDesk" (20 : Nat) "ChequeDesk" "from" "[I") ∈ lw_all := lw_g (lw_at lw_m2 150 rfl) rfl
theorem q420 : (Jvm.Cond.fieldLink "ChequeDesk" (23 : Nat) "ChequeDesk" "may" "[Z") ∈ lw_all := lw_g (lw_at lw_m2 151 rfl) rfl
theorem q421 : (Jvm.Cond.fieldLink "ChequeDesk" (27 : Nat) "ChequeDesk" "then" "[Z") ∈ lw_all := lw_g (lw_at lw_m2 152 rfl) rfl
theorem q422 : (Jvm.Cond.fieldLink "ChequeDesk" (35 : Nat) "ChequeDesk" "others" "Ljava/util/ArrayList;") ∈ lw_all := lw_g (lw_at lw_m2 153 rfl) rfl
theorem q423 : (Jvm.Cond.fieldLink "ChequeDesk" (39 : Nat) "ChequeDesk" "told" "Ljava/util/ArrayList;") ∈ lw_all := lw_g (lw_at lw_m2 154 rfl) rfl
theorem q424 : (Jvm.Cond.fieldLink "ChequeDesk" (42 : Nat) "ChequeDesk" "papers" "Ljava/util/ArrayList;") ∈ lw_all := lw_g (lw_at lw_m2 155 rfl) rfl
theorem q425 : (Jvm.Cond.laysFinal "ChequeDesk" "ChequeDesk" "widths" "[I") ∈ lw_all := lw_g (lw_at lw_m2 156 rfl) rfl
theorem q426 : (Jvm.Cond.soleField "ChequeDesk" "widths") ∈ lw_all := lw_g (lw_at lw_m2 157 rfl) rfl
theorem q427 : (Jvm.Cond.laysFinal "ChequeDesk" "ChequeDesk" "ticks" "[B") ∈ lw_all := lw_g (lw_at lw_m2 158 rfl) rfl
theorem q428 : (Jvm.Cond.soleField "ChequeDesk" "ticks") ∈ lw_all := lw_g (lw_at lw_m2 159 rfl) rfl
theorem q429 : (Jvm.Cond.lays "ChequeDesk" "ChequeDesk" "ticked" "I") ∈ lw_all := lw_g (lw_at lw_m2 160 rfl) rfl
theorem q430 : (Jvm.Cond.soleField "ChequeDesk" "ticked") ∈ lw_all := lw_g (lw_at lw_m2 161 rfl) rfl
theorem q431 : (Jvm.Cond.lays "ChequeDesk" "ChequeDesk" "reading" "LChequeDesk$Reading;") ∈ lw_all := lw_g (lw_at lw_m2 162 rfl) rfl
theorem q432 : (Jvm.Cond.soleField "ChequeDesk" "reading") ∈ lw_all := lw_g (lw_at lw_m2 163 rfl) rfl
theorem q433 : (Jvm.Cond.laysFinal "ChequeDesk" "ChequeDesk" "costs" "[I") ∈ lw_all := lw_g (lw_at lw_m2 164 rfl) rfl
theorem q434 : (Jvm.Cond.soleField "ChequeDesk" "costs") ∈ lw_all := lw_g (lw_at lw_m2 165 rfl) rfl
theorem q435 : (Jvm.Cond.laysFinal "ChequeDesk" "ChequeDesk" "from" "[I") ∈ lw_all := lw_g (lw_at lw_m2 166 rfl) rfl
theorem q436 : (Jvm.Cond.soleField "ChequeDesk" "from") ∈ lw_all := lw_g (lw_at lw_m2 167 rfl) rfl
theorem q437 : (Jvm.Cond.laysFinal "ChequeDesk" "ChequeDesk" "may" "[Z") ∈ lw_all := lw_g (lw_at lw_m2 168 rfl) rfl
theorem q438 : (Jvm.Cond.soleField "ChequeDesk" "may") ∈ lw_all := lw_g (lw_at lw_m2 169 rfl) rfl
theorem q439 : (Jvm.Cond.laysFinal "ChequeDesk" "ChequeDesk" "then" "[Z") ∈ lw_all := lw_g (lw_at lw_m2 170 rfl) rfl
theorem q440 : (Jvm.Cond.soleField "ChequeDesk" "then") ∈ lw_all := lw_g (lw_at lw_m2 171 rfl) rfl
theorem q441 : (Jvm.Cond.laysFinal "ChequeDesk" "ChequeDesk" "others" "Ljava/util/ArrayList;") ∈ lw_all := lw_g (lw_at lw_m2 172 rfl) rfl
theorem q442 : (Jvm.Cond.soleField "ChequeDesk" "others") ∈ lw_all := lw_g (lw_at lw_m2 173 rfl) rfl
theorem q443 : (Jvm.Cond.laysFinal "ChequeDesk" "ChequeDesk" "told" "Ljava/util/ArrayList;") ∈ lw_all := lw_g (lw_at lw_m2 174 rfl) rfl
theorem q444 : (Jvm.Cond.soleField "ChequeDesk" "told") ∈ lw_all := lw_g (lw_at lw_m2 175 rfl) rfl
theorem q445 : (Jvm.Cond.laysFinal "ChequeDesk" "ChequeDesk" "papers" "Ljava/util/ArrayList;") ∈ lw_all := lw_g (lw_at lw_m2 176 rfl) rfl
theorem q446 : (Jvm.Cond.soleField "ChequeDesk" "papers") ∈ lw_all := lw_g (lw_at lw_m2 177 rfl) rfl
theorem q447 : (Jvm.Cond.superclass "ChequeDesk" "java/lang/Object") ∈ lw_all := lw_g (lw_at lw_m2 178 rfl) rfl
theorem q449 : (Jvm.Cond.instanceMethod ({ cls := "ChequeDesk", name := "read", desc := "()I" } : Jvm.MethodName)) ∈ lw_all := lw_g (lw_at lw_m2 180 rfl) rfl
theorem q450 : (Jvm.Cond.selects "ChequeDesk" ({ cls := "ChequeDesk", name := "read", desc := "()I" } : Jvm.MethodName) ({ cls := "ChequeDesk", name := "read", desc := "()I" } : Jvm.MethodName)) ∈ lw_all := lw_g (lw_at lw_m2 181 rfl) rfl
theorem q451 : (Jvm.Cond.code ({ cls := "ChequeDesk", name := "read", desc := "()I" } : Jvm.MethodName) prog_1_method_13_code (4 : Nat) (Option.some Jvm.ClassFile.FieldType.int)) ∈ lw_all := lw_g (lw_at lw_m2 182 rfl) rfl
theorem q452 : (Jvm.Cond.classLink "ChequeDesk" (86 : Nat) "ChequeDesk$Reading") ∈ lw_all := lw_g (lw_at lw_m2 183 rfl) rfl
theorem q454 : (Jvm.Cond.methodLink "ChequeDesk" (107 : Nat) ({ cls := "ChequeDesk$Reading", name := "<init>", desc := "(I)V" } : Jvm.MethodName)) ∈ lw_all := lw_g (lw_at lw_m2 185 rfl) rfl
theorem q459 : (Jvm.Cond.fieldLinkNest "ChequeDesk" (90 : Nat) "ChequeDesk$Reading" "places" "I" "ChequeDesk") ∈ lw_tbl := lw_at lw_m2 190 rfl
theorem q461 : (Jvm.Cond.fieldLinkNest "ChequeDesk" (97 : Nat) "ChequeDesk$Reading" "signs" "[B" "ChequeDesk") ∈ lw_tbl := lw_at lw_m2 192 rfl
theorem q463 : (Jvm.Cond.fieldLinkNest "ChequeDesk" (104 : Nat) "ChequeDesk$Reading" "speeds" "[B" "ChequeDesk") ∈ lw_tbl := lw_at lw_m2 194 rfl
theorem q464 : (Jvm.Cond.fieldLinkNest "ChequeDesk" (85 : Nat) "ChequeDesk$Reading" "cost" "I" "ChequeDesk") ∈ lw_tbl := lw_at lw_m2 195 rfl
theorem q465 : (Jvm.Cond.fieldLinkNest "ChequeDesk" (120 : Nat) "ChequeDesk$Reading" "gap" "I" "ChequeDesk") ∈ lw_tbl := lw_at lw_m2 196 rfl
theorem q466 : (Jvm.Cond.fieldLinkNest "ChequeDesk" (112 : Nat) "ChequeDesk$Reading" "isTurned" "Z" "ChequeDesk") ∈ lw_tbl := lw_at lw_m2 197 rfl
theorem q480 : (Jvm.Cond.methodLink "ChequeDesk" (108 : Nat) ({ cls := "ChequeDesk", name := "findCosts", desc := "(IZ)V" } : Jvm.MethodName)) ∈ lw_all := lw_g (lw_at lw_m2 211 rfl) rfl
theorem q481 : (Jvm.Cond.privateMethod ({ cls := "ChequeDesk", name := "findCosts", desc := "(IZ)V" } : Jvm.MethodName)) ∈ lw_tbl := lw_at lw_m2 212 rfl
theorem q482 : (Jvm.Cond.instanceMethod ({ cls := "ChequeDesk", name := "findCosts", desc := "(IZ)V" } : Jvm.MethodName)) ∈ lw_all := lw_g (lw_at lw_m2 213 rfl) rfl
theorem q483 : (Jvm.Cond.code ({ cls := "ChequeDesk", name := "findCosts", desc := "(IZ)V" } : Jvm.MethodName) prog_1_method_8_code (9 : Nat) (Option.none : Option Jvm.ClassFile.FieldType)) ∈ lw_all := lw_g (lw_at lw_m2 214 rfl) rfl
theorem q484 : (Jvm.Cond.methodLink "ChequeDesk" (61 : Nat) ({ cls := "ChequeDesk", name := "widthOf", desc := "(II)I" } : Jvm.MethodName)) ∈ lw_all := lw_g (lw_at lw_m2 215 rfl) rfl
theorem q485 : (Jvm.Cond.privateMethod ({ cls := "ChequeDesk", name := "widthOf", desc := "(II)I" } : Jvm.MethodName)) ∈ lw_tbl := lw_at lw_m2 216 rfl
theorem q486 : (Jvm.Cond.instanceMethod ({ cls := "ChequeDesk", name := "widthOf", desc := "(II)I" } : Jvm.MethodName)) ∈ lw_all := lw_g (lw_at lw_m2 217 rfl) rfl
theorem q487 : (Jvm.Cond.code ({ cls := "ChequeDesk", name := "widthOf", desc := "(II)I" } : Jvm.MethodName) prog_1_method_6_code (5 : Nat) (Option.some Jvm.ClassFile.FieldType.int)) ∈ lw_all := lw_g (lw_at lw_m2 218 rfl) rfl
theorem q488 : (Jvm.Cond.methodLink "ChequeDesk" (65 : Nat) ({ cls := "java/lang/Math", name := "abs", desc := "(I)I" } : Jvm.MethodName)) ∈ lw_all := lw_g (lw_at lw_m2 219 rfl) rfl
theorem q491 : (Jvm.Cond.methodLink "ChequeDesk" (71 : Nat) ({ cls := "ChequeDesk", name := "at", desc := "(III)I" } : Jvm.MethodName)) ∈ lw_all := lw_g (lw_at lw_m2 222 rfl) rfl
theorem q492 : (Jvm.Cond.static ({ cls := "ChequeDesk", name := "at", desc := "(III)I" } : Jvm.MethodName)) ∈ lw_all := lw_g (lw_at lw_m2 223 rfl) rfl
theorem q493 : (Jvm.Cond.code ({ cls := "ChequeDesk", name := "at", desc := "(III)I" } : Jvm.MethodName) prog_1_method_7_code (3 : Nat) (Option.some Jvm.ClassFile.FieldType.int)) ∈ lw_all := lw_g (lw_at lw_m2 224 rfl) rfl
theorem q494 : (Jvm.Cond.methodLink "ChequeDesk" (100 : Nat) ({ cls := "ChequeDesk", name := "best", desc := "(I[BII)I" } : Jvm.MethodName)) ∈ lw_all := lw_g (lw_at lw_m2 225 rfl) rfl
theorem q495 : (Jvm.Cond.privateMethod ({ cls := "ChequeDesk", name := "best", desc := "(I[BII)I" } : Jvm.MethodName)) ∈ lw_tbl := lw_at lw_m2 226 rfl
theorem q496 : (Jvm.Cond.instanceMethod ({ cls := "ChequeDesk", name := "best", desc := "(I[BII)I" } : Jvm.MethodName)) ∈ lw_all := lw_g (lw_at lw_m2 227 rfl) rfl
theorem q497 : (Jvm.Cond.code ({ cls := "ChequeDesk", name := "best", desc := "(I[BII)I" } : Jvm.MethodName) prog_1_method_10_code (9 : Nat) (Option.some Jvm.ClassFile.FieldType.int)) ∈ lw_all := lw_g (lw_at lw_m2 228 rfl) rfl
theorem q498 : (Jvm.Cond.constant "ChequeDesk" (75 : Nat) (1000000 : Int32)) ∈ lw_all := lw_g (lw_at lw_m2 229 rfl) rfl
theorem q499 : (Jvm.Cond.methodLink "ChequeDesk" (79 : Nat) ({ cls := "java/lang/Math", name := "min", desc := "(II)I" } : Jvm.MethodName)) ∈ lw_all := lw_g (lw_at lw_m2 230 rfl) rfl
theorem q500 : (Jvm.Cond.methodLink "ChequeDesk" (82 : Nat) ({ cls := "ChequeDesk", name := "least", desc := "(II)I" } : Jvm.MethodName)) ∈ lw_all := lw_g (lw_at lw_m2 231 rfl) rfl
theorem q501 : (Jvm.Cond.privateMethod ({ cls := "ChequeDesk", name := "least", desc := "(II)I" } : Jvm.MethodName)) ∈ lw_tbl := lw_at lw_m2 232 rfl
theorem q502 : (Jvm.Cond.instanceMethod ({ cls := "ChequeDesk", name := "least", desc := "(II)I" } : Jvm.MethodName)) ∈ lw_all := lw_g (lw_at lw_m2 233 rfl) rfl
theorem q503 : (Jvm.Cond.code ({ cls := "ChequeDesk", name := "least", desc := "(II)I" } : Jvm.MethodName) prog_1_method_9_code (5 : Nat) (Option.some Jvm.ClassFile.FieldType.int)) ∈ lw_all := lw_g (lw_at lw_m2 234 rfl) rfl
theorem q504 : (Jvm.Cond.methodLink "ChequeDesk" (76 : Nat) ({ cls := "java/lang/Math", name := "max", desc := "(II)I" } : Jvm.MethodName)) ∈ lw_all := lw_g (lw_at lw_m2 235 rfl) rfl
theorem q505 : (Jvm.Cond.methodLink "ChequeDesk" (116 : Nat) ({ cls := "ChequeDesk", name := "walk", desc := "(LChequeDesk$Reading;)V" } : Jvm.MethodName)) ∈ lw_all := lw_g (lw_at lw_m2 236 rfl) rfl
theorem q506 : (Jvm.Cond.privateMethod ({ cls := "ChequeDesk", name := "walk", desc := "(LChequeDesk$Reading;)V" } : Jvm.MethodName)) ∈ lw_tbl := lw_at lw_m2 237 rfl
theorem q507 : (Jvm.Cond.instanceMethod ({ cls := "ChequeDesk", name := "walk", desc := "(LChequeDesk$Reading;)V" } : Jvm.MethodName)) ∈ lw_all := lw_g (lw_at lw_m2 238 rfl) rfl
theorem q508 : (Jvm.Cond.code ({ cls := "ChequeDesk", name := "walk", desc := "(LChequeDesk$Reading;)V" } : Jvm.MethodName) prog_1_method_11_code (7 : Nat) (Option.none : Option Jvm.ClassFile.FieldType)) ∈ lw_all := lw_g (lw_at lw_m2 239 rfl) rfl
theorem q509 : (Jvm.Cond.methodLink "ChequeDesk" (93 : Nat) ({ cls := "ChequeDesk", name := "goesOn", desc := "(III[I)Z" } : Jvm.MethodName)) ∈ lw_all := lw_g (lw_at lw_m3 0 rfl) rfl
theorem q510 : (Jvm.Cond.privateMethod ({ cls := "ChequeDesk", name := "goesOn", desc := "(III[I)Z" } : Jvm.MethodName)) ∈ lw_tbl := lw_at lw_m3 1 rfl
theorem q511 : (Jvm.Cond.instanceMethod ({ cls := "ChequeDesk", name := "goesOn", desc := "(III[I)Z" } : Jvm.MethodName)) ∈ lw_all := lw_g (lw_at lw_m3 2 rfl) rfl
theorem q512 : (Jvm.Cond.code ({ cls := "ChequeDesk", name := "goesOn", desc := "(III[I)Z" } : Jvm.MethodName) prog_1_method_12_code (9 : Nat) (Option.some Jvm.ClassFile.FieldType.boolean)) ∈ lw_all := lw_g (lw_at lw_m3 3 rfl) rfl
theorem q513 : (Jvm.Cond.methodLink "ChequeDesk" (127 : Nat) ({ cls := "ChequeDesk", name := "findOthers", desc := "()V" } : Jvm.MethodName)) ∈ lw_all := lw_g (lw_at lw_m3 4 rfl) rfl
theorem q514 : (Jvm.Cond.privateMethod ({ cls := "ChequeDesk", name := "findOthers", desc := "()V" } : Jvm.MethodName)) ∈ lw_tbl := lw_at lw_m3 5 rfl
theorem q515 : (Jvm.Cond.instanceMethod ({ cls := "ChequeDesk", name := "findOthers", desc := "()V" } : Jvm.MethodName)) ∈ lw_all := lw_g (lw_at lw_m3 6 rfl) rfl
theorem q516 : (Jvm.Cond.code ({ cls := "ChequeDesk", name := "findOthers", desc := "()V" } : Jvm.MethodName) prog_1_method_14_code (4 : Nat) (Option.none : Option Jvm.ClassFile.FieldType)) ∈ lw_all := lw_g (lw_at lw_m3 7 rfl) rfl
theorem q517 : (Jvm.Cond.methodLink "ChequeDesk" (130 : Nat) ({ cls := "java/util/ArrayList", name := "clear", desc := "()V" } : Jvm.MethodName)) ∈ lw_all := lw_g (lw_at lw_m3 8 rfl) rfl
theorem q521 : (Jvm.Cond.methodLink "ChequeDesk" (133 : Nat) ({ cls := "java/lang/System", name := "arraycopy", desc := "(Ljava/lang/Object;ILjava/lang/Object;II)V" } : Jvm.MethodName)) ∈ lw_all := lw_g (lw_at lw_m3 12 rfl) rfl
theorem q522 : (Jvm.Cond.methodLink "ChequeDesk" (139 : Nat) ({ cls := "ChequeDesk$Reading", name := "fits", desc := "([B)Z" } : Jvm.MethodName)) ∈ lw_all := lw_g (lw_at lw_m3 13 rfl) rfl
theorem q525 : (Jvm.Cond.classLink "ChequeDesk" (143 : Nat) "ChequeDesk$Other") ∈ lw_all := lw_g (lw_at lw_m3 16 rfl) rfl
theorem q527 : (Jvm.Cond.methodLink "ChequeDesk" (145 : Nat) ({ cls := "ChequeDesk$Other", name := "<init>", desc := "(III)V" } : Jvm.MethodName)) ∈ lw_all := lw_g (lw_at lw_m3 18 rfl) rfl
theorem q532 : (Jvm.Cond.fieldLinkNest "ChequeDesk" (168 : Nat) "ChequeDesk$Other" "place" "I" "ChequeDesk") ∈ lw_tbl := lw_at lw_m3 23 rfl
theorem q534 : (Jvm.Cond.fieldLinkNest "ChequeDesk" (171 : Nat) "ChequeDesk$Other" "sign" "I" "ChequeDesk") ∈ lw_tbl := lw_at lw_m3 25 rfl
theorem q536 : (Jvm.Cond.fieldLinkNest "ChequeDesk" (174 : Nat) "ChequeDesk$Other" "more" "I" "ChequeDesk") ∈ lw_tbl := lw_at lw_m3 27 rfl
theorem q544 : (Jvm.Cond.methodLink "ChequeDesk" (148 : Nat) ({ cls := "java/util/ArrayList", name := "add", desc := "(Ljava/lang/Object;)Z" } : Jvm.MethodName)) ∈ lw_all := lw_g (lw_at lw_m3 35 rfl) rfl
theorem q569 : (Jvm.Cond.selects "ChequeDesk" ({ cls := "java/lang/Object", name := "getClass", desc := "()Ljava/lang/Class;" } : Jvm.MethodName) ({ cls := "java/lang/Object", name := "getClass", desc := "()Ljava/lang/Class;" } : Jvm.MethodName)) ∈ lw_all := lw_g (lw_at lw_m3 60 rfl) rfl
theorem q594 : (Jvm.Cond.instanceMethod ({ cls := "ChequeDesk", name := "others", desc := "()I" } : Jvm.MethodName)) ∈ lw_all := lw_g (lw_at lw_m3 85 rfl) rfl
theorem q595 : (Jvm.Cond.selects "ChequeDesk" ({ cls := "ChequeDesk", name := "others", desc := "()I" } : Jvm.MethodName) ({ cls := "ChequeDesk", name := "others", desc := "()I" } : Jvm.MethodName)) ∈ lw_all := lw_g (lw_at lw_m3 86 rfl) rfl
theorem q596 : (Jvm.Cond.code ({ cls := "ChequeDesk", name := "others", desc := "()I" } : Jvm.MethodName) prog_1_method_18_code (1 : Nat) (Option.some Jvm.ClassFile.FieldType.int)) ∈ lw_all := lw_g (lw_at lw_m3 87 rfl) rfl
theorem q597 : (Jvm.Cond.methodLink "ChequeDesk" (158 : Nat) ({ cls := "java/util/ArrayList", name := "size", desc := "()I" } : Jvm.MethodName)) ∈ lw_all := lw_g (lw_at lw_m3 88 rfl) rfl
theorem q602 : (Jvm.Cond.instanceMethod ({ cls := "ChequeDesk", name := "choose", desc := "(I)I" } : Jvm.MethodName)) ∈ lw_all := lw_g (lw_at lw_m3 93 rfl) rfl
theorem q603 : (Jvm.Cond.selects "ChequeDesk" ({ cls := "ChequeDesk", name := "choose", desc := "(I)I" } : Jvm.MethodName) ({ cls := "ChequeDesk", name := "choose", desc := "(I)I" } : Jvm.MethodName)) ∈ lw_all := lw_g (lw_at lw_m3 94 rfl) rfl
theorem q604 : (Jvm.Cond.code ({ cls := "ChequeDesk", name := "choose", desc := "(I)I" } : Jvm.MethodName) prog_1_method_20_code (3 : Nat) (Option.some Jvm.ClassFile.FieldType.int)) ∈ lw_all := lw_g (lw_at lw_m3 95 rfl) rfl
theorem q605 : (Jvm.Cond.methodLink "ChequeDesk" (162 : Nat) ({ cls := "ChequeDesk", name := "others", desc := "()I" } : Jvm.MethodName)) ∈ lw_all := lw_g (lw_at lw_m3 96 rfl) rfl
theorem q606 : (Jvm.Cond.methodLink "ChequeDesk" (164 : Nat) ({ cls := "java/util/ArrayList", name := "get", desc := "(I)Ljava/lang/Object;" } : Jvm.MethodName)) ∈ lw_all := lw_g (lw_at lw_m3 97 rfl) rfl
theorem q621 : (Jvm.Cond.instanceMethod ({ cls := "ChequeDesk", name := "twin", desc := "()I" } : Jvm.MethodName)) ∈ lw_all := lw_g (lw_at lw_m3 112 rfl) rfl
theorem q622 : (Jvm.Cond.selects "ChequeDesk" ({ cls := "ChequeDesk", name := "twin", desc := "()I" } : Jvm.MethodName) ({ cls := "ChequeDesk", name := "twin", desc := "()I" } : Jvm.MethodName)) ∈ lw_all := lw_g (lw_at lw_m3 113 rfl) rfl
theorem q623 : (Jvm.Cond.code ({ cls := "ChequeDesk", name := "twin", desc := "()I" } : Jvm.MethodName) prog_1_method_25_code (2 : Nat) (Option.some Jvm.ClassFile.FieldType.int)) ∈ lw_all := lw_g (lw_at lw_m3 114 rfl) rfl
theorem q624 : (Jvm.Cond.methodLink "ChequeDesk" (152 : Nat) ({ cls := "ChequeDesk$Reading", name := "fits", desc := "()Z" } : Jvm.MethodName)) ∈ lw_all := lw_g (lw_at lw_m3 115 rfl) rfl
theorem q629 : (Jvm.Cond.classLink "ChequeDesk" (199 : Nat) "ChequeDesk$Paper") ∈ lw_all := lw_g (lw_at lw_m3 120 rfl) rfl
theorem q630 : (Jvm.Cond.methodLink "ChequeDesk" (207 : Nat) ({ cls := "ChequeDesk$Paper", name := "isOf", desc := "(LChequeDesk$Reading;)Z" } : Jvm.MethodName)) ∈ lw_all := lw_g (lw_at lw_m3 121 rfl) rfl
theorem q643 : (Jvm.Cond.instanceMethod ({ cls := "ChequeDesk", name := "count", desc := "(I)I" } : Jvm.MethodName)) ∈ lw_all := lw_g (lw_at lw_m3 134 rfl) rfl
theorem q644 : (Jvm.Cond.selects "ChequeDesk" ({ cls := "ChequeDesk", name := "count", desc := "(I)I" } : Jvm.MethodName) ({ cls := "ChequeDesk", name := "count", desc := "(I)I" } : Jvm.MethodName)) ∈ lw_all := lw_g (lw_at lw_m3 135 rfl) rfl
theorem q645 : (Jvm.Cond.code ({ cls := "ChequeDesk", name := "count", desc := "(I)I" } : Jvm.MethodName) prog_1_method_32_code (4 : Nat) (Option.some Jvm.ClassFile.FieldType.int)) ∈ lw_all := lw_g (lw_at lw_m3 136 rfl) rfl
theorem q651 : (Jvm.Cond.instanceMethod ({ cls := "ChequeDesk", name := "teach", desc := "(II)I" } : Jvm.MethodName)) ∈ lw_all := lw_g (lw_at lw_m3 142 rfl) rfl
theorem q652 : (Jvm.Cond.selects "ChequeDesk" ({ cls := "ChequeDesk", name := "teach", desc := "(II)I" } : Jvm.MethodName) ({ cls := "ChequeDesk", name := "teach", desc := "(II)I" } : Jvm.MethodName)) ∈ lw_all := lw_g (lw_at lw_m3 143 rfl) rfl
theorem q653 : (Jvm.Cond.code ({ cls := "ChequeDesk", name := "teach", desc := "(II)I" } : Jvm.MethodName) prog_1_method_4_code (4 : Nat) (Option.some Jvm.ClassFile.FieldType.int)) ∈ lw_all := lw_g (lw_at lw_m3 144 rfl) rfl
theorem q654 : (Jvm.Cond.constant "ChequeDesk" (51 : Nat) (111111 : Int32)) ∈ lw_all := lw_g (lw_at lw_m3 145 rfl) rfl
theorem q655 : (Jvm.Cond.constant "ChequeDesk" (52 : Nat) (333333 : Int32)) ∈ lw_all := lw_g (lw_at lw_m3 146 rfl) rfl
theorem q656 : (Jvm.Cond.methodLink "ChequeDesk" (53 : Nat) ({ cls := "ChequeDesk", name := "need", desc := "(Z)V" } : Jvm.MethodName)) ∈ lw_all := lw_g (lw_at lw_m3 147 rfl) rfl
theorem q657 : (Jvm.Cond.static ({ cls := "ChequeDesk", name := "need", desc := "(Z)V" } : Jvm.MethodName)) ∈ lw_all := lw_g (lw_at lw_m3 148 rfl) rfl
theorem q658 : (Jvm.Cond.code ({ cls := "ChequeDesk", name := "need", desc := "(Z)V" } : Jvm.MethodName) prog_1_method_2_code (1 : Nat) (Option.none : Option Jvm.ClassFile.FieldType)) ∈ lw_all := lw_g (lw_at lw_m3 149 rfl) rfl
theorem q659 : (Jvm.Cond.classLink "ChequeDesk" (45 : Nat) "java/lang/IllegalArgumentException") ∈ lw_all := lw_g (lw_at lw_m3 150 rfl) rfl
theorem q660 : (Jvm.Cond.methodLink "ChequeDesk" (47 : Nat) ({ cls := "java/lang/IllegalArgumentException", name := "<init>", desc := "()V" } : Jvm.MethodName)) ∈ lw_all := lw_g (lw_at lw_m3 151 rfl) rfl
theorem q674 : (Jvm.Cond.instanceMethod ({ cls := "ChequeDesk", name := "tick", desc := "(I)I" } : Jvm.MethodName)) ∈ lw_all := lw_g (lw_at lw_m3 165 rfl) rfl
theorem q675 : (Jvm.Cond.selects "ChequeDesk" ({ cls := "ChequeDesk", name := "tick", desc := "(I)I" } : Jvm.MethodName) ({ cls := "ChequeDesk", name := "tick", desc := "(I)I" } : Jvm.MethodName)) ∈ lw_all := lw_g (lw_at lw_m3 166 rfl) rfl
theorem q676 : (Jvm.Cond.code ({ cls := "ChequeDesk", name := "tick", desc := "(I)I" } : Jvm.MethodName) prog_1_method_5_code (2 : Nat) (Option.some Jvm.ClassFile.FieldType.int)) ∈ lw_all := lw_g (lw_at lw_m3 167 rfl) rfl
theorem q681 : (Jvm.Cond.instanceMethod ({ cls := "ChequeDesk", name := "about", desc := "(I)I" } : Jvm.MethodName)) ∈ lw_all := lw_g (lw_at lw_m3 172 rfl) rfl
theorem q682 : (Jvm.Cond.selects "ChequeDesk" ({ cls := "ChequeDesk", name := "about", desc := "(I)I" } : Jvm.MethodName) ({ cls := "ChequeDesk", name := "about", desc := "(I)I" } : Jvm.MethodName)) ∈ lw_all := lw_g (lw_at lw_m3 173 rfl) rfl
theorem q683 : (Jvm.Cond.code ({ cls := "ChequeDesk", name := "about", desc := "(I)I" } : Jvm.MethodName) prog_1_method_15_code (2 : Nat) (Option.some Jvm.ClassFile.FieldType.int)) ∈ lw_all := lw_g (lw_at lw_m3 174 rfl) rfl
theorem q688 : (Jvm.Cond.instanceMethod ({ cls := "ChequeDesk", name := "place", desc := "(II)I" } : Jvm.MethodName)) ∈ lw_all := lw_g (lw_at lw_m3 179 rfl) rfl
theorem q689 : (Jvm.Cond.selects "ChequeDesk" ({ cls := "ChequeDesk", name := "place", desc := "(II)I" } : Jvm.MethodName) ({ cls := "ChequeDesk", name := "place", desc := "(II)I" } : Jvm.MethodName)) ∈ lw_all := lw_g (lw_at lw_m3 180 rfl) rfl
theorem q690 : (Jvm.Cond.code ({ cls := "ChequeDesk", name := "place", desc := "(II)I" } : Jvm.MethodName) prog_1_method_16_code (3 : Nat) (Option.some Jvm.ClassFile.FieldType.int)) ∈ lw_all := lw_g (lw_at lw_m3 181 rfl) rfl
theorem q695 : (Jvm.Cond.instanceMethod ({ cls := "ChequeDesk", name := "field", desc := "(I)I" } : Jvm.MethodName)) ∈ lw_all := lw_g (lw_at lw_m3 186 rfl) rfl
theorem q696 : (Jvm.Cond.selects "ChequeDesk" ({ cls := "ChequeDesk", name := "field", desc := "(I)I" } : Jvm.MethodName) ({ cls := "ChequeDesk", name := "field", desc := "(I)I" } : Jvm.MethodName)) ∈ lw_all := lw_g (lw_at lw_m3 187 rfl) rfl
theorem q697 : (Jvm.Cond.code ({ cls := "ChequeDesk", name := "field", desc := "(I)I" } : Jvm.MethodName) prog_1_method_17_code (2 : Nat) (Option.some Jvm.ClassFile.FieldType.int)) ∈ lw_all := lw_g (lw_at lw_m3 188 rfl) rfl
theorem q698 : (Jvm.Cond.methodLink "ChequeDesk" (155 : Nat) ({ cls := "ChequeDesk$Reading", name := "field", desc := "(I)I" } : Jvm.MethodName)) ∈ lw_all := lw_g (lw_at lw_m3 189 rfl) rfl
theorem q703 : (Jvm.Cond.instanceMethod ({ cls := "ChequeDesk", name := "other", desc := "(II)I" } : Jvm.MethodName)) ∈ lw_all := lw_g (lw_at lw_m3 194 rfl) rfl
theorem q704 : (Jvm.Cond.selects "ChequeDesk" ({ cls := "ChequeDesk", name := "other", desc := "(II)I" } : Jvm.MethodName) ({ cls := "ChequeDesk", name := "other", desc := "(II)I" } : Jvm.MethodName)) ∈ lw_all := lw_g (lw_at lw_m3 195 rfl) rfl
theorem q705 : (Jvm.Cond.code ({ cls := "ChequeDesk", name := "other", desc := "(II)I" } : Jvm.MethodName) prog_1_method_19_code (4 : Nat) (Option.some Jvm.ClassFile.FieldType.int)) ∈ lw_all := lw_g (lw_at lw_m3 196 rfl) rfl
theorem q711 : (Jvm.Cond.instanceMethod ({ cls := "ChequeDesk", name := "batch", desc := "(I)I" } : Jvm.MethodName)) ∈ lw_all := lw_g (lw_at lw_m3 202 rfl) rfl
theorem q712 : (Jvm.Cond.selects "ChequeDesk" ({ cls := "ChequeDesk", name := "batch", desc := "(I)I" } : Jvm.MethodName) ({ cls := "ChequeDesk", name := "batch", desc := "(I)I" } : Jvm.MethodName)) ∈ lw_all := lw_g (lw_at lw_m3 203 rfl) rfl
theorem q713 : (Jvm.Cond.code ({ cls := "ChequeDesk", name := "batch", desc := "(I)I" } : Jvm.MethodName) prog_1_method_21_code (2 : Nat) (Option.some Jvm.ClassFile.FieldType.int)) ∈ lw_all := lw_g (lw_at lw_m3 204 rfl) rfl
theorem q714 : (Jvm.Cond.constant "ChequeDesk" (177 : Nat) (1000000000 : Int32)) ∈ lw_all := lw_g (lw_at lw_m3 205 rfl) rfl
theorem q715 : (Jvm.Cond.classLink "ChequeDesk" (178 : Nat) "java/lang/IllegalStateException") ∈ lw_all := lw_g (lw_at lw_m3 206 rfl) rfl
theorem q724 : (Jvm.Cond.methodLink "ChequeDesk" (180 : Nat) ({ cls := "java/lang/IllegalStateException", name := "<init>", desc := "()V" } : Jvm.MethodName)) ∈ lw_all := lw_g (lw_at lw_m3 215 rfl) rfl
theorem q730 : (Jvm.Cond.methodLink "ChequeDesk" (181 : Nat) ({ cls := "java/lang/Integer", name := "valueOf", desc := "(I)Ljava/lang/Integer;" } : Jvm.MethodName)) ∈ lw_all := lw_g (lw_at lw_m3 221 rfl) rfl
theorem q773 : (Jvm.Cond.instanceMethod ({ cls := "ChequeDesk", name := "paper", desc := "(II)I" } : Jvm.MethodName)) ∈ lw_all := lw_g (lw_at lw_m4 24 rfl) rfl
theorem q774 : (Jvm.Cond.selects "ChequeDesk" ({ cls := "ChequeDesk", name := "paper", desc := "(II)I" } : Jvm.MethodName) ({ cls := "ChequeDesk", name := "paper", desc := "(II)I" } : Jvm.MethodName)) ∈ lw_all := lw_g (lw_at lw_m4 25 rfl) rfl
theorem q775 : (Jvm.Cond.code ({ cls := "ChequeDesk", name := "paper", desc := "(II)I" } : Jvm.MethodName) prog_1_method_23_code (3 : Nat) (Option.some Jvm.ClassFile.FieldType.int)) ∈ lw_all := lw_g (lw_at lw_m4 26 rfl) rfl
theorem q776 : (Jvm.Cond.methodLink "ChequeDesk" (188 : Nat) ({ cls := "ChequeDesk", name := "there", desc := "(II)V" } : Jvm.MethodName)) ∈ lw_all := lw_g (lw_at lw_m4 27 rfl) rfl
theorem q777 : (Jvm.Cond.static ({ cls := "ChequeDesk", name := "there", desc := "(II)V" } : Jvm.MethodName)) ∈ lw_all := lw_g (lw_at lw_m4 28 rfl) rfl
theorem q778 : (Jvm.Cond.code ({ cls := "ChequeDesk", name := "there", desc := "(II)V" } : Jvm.MethodName) prog_1_method_3_code (2 : Nat) (Option.none : Option Jvm.ClassFile.FieldType)) ∈ lw_all := lw_g (lw_at lw_m4 29 rfl) rfl
theorem q779 : (Jvm.Cond.classLink "ChequeDesk" (48 : Nat) "java/lang/IndexOutOfBoundsException") ∈ lw_all := lw_g (lw_at lw_m4 30 rfl) rfl
theorem q788 : (Jvm.Cond.methodLink "ChequeDesk" (50 : Nat) ({ cls := "java/lang/IndexOutOfBoundsException", name := "<init>", desc := "()V" } : Jvm.MethodName)) ∈ lw_all := lw_g (lw_at lw_m4 39 rfl) rfl
theorem q794 : (Jvm.Cond.methodLink "ChequeDesk" (192 : Nat) ({ cls := "ChequeDesk", name := "isAmount", desc := "(I)Z" } : Jvm.MethodName)) ∈ lw_all := lw_g (lw_at lw_m4 45 rfl) rfl
theorem q795 : (Jvm.Cond.static ({ cls := "ChequeDesk", name := "isAmount", desc := "(I)Z" } : Jvm.MethodName)) ∈ lw_all := lw_g (lw_at lw_m4 46 rfl) rfl
theorem q796 : (Jvm.Cond.code ({ cls := "ChequeDesk", name := "isAmount", desc := "(I)Z" } : Jvm.MethodName) prog_1_method_22_code (1 : Nat) (Option.some Jvm.ClassFile.FieldType.boolean)) ∈ lw_all := lw_g (lw_at lw_m4 47 rfl) rfl
theorem q797 : (Jvm.Cond.constant "ChequeDesk" (187 : Nat) (9999999 : Int32)) ∈ lw_all := lw_g (lw_at lw_m4 48 rfl) rfl
theorem q798 : (Jvm.Cond.methodLink "ChequeDesk" (196 : Nat) ({ cls := "ChequeDesk", name := "twin", desc := "()I" } : Jvm.MethodName)) ∈ lw_all := lw_g (lw_at lw_m4 49 rfl) rfl
theorem q800 : (Jvm.Cond.methodLink "ChequeDesk" (201 : Nat) ({ cls := "ChequeDesk$Paper", name := "<init>", desc := "(IILChequeDesk$Reading;I)V" } : Jvm.MethodName)) ∈ lw_all := lw_g (lw_at lw_m4 51 rfl) rfl
theorem q805 : (Jvm.Cond.fieldLinkNest "ChequeDesk" (257 : Nat) "ChequeDesk$Paper" "number" "I" "ChequeDesk") ∈ lw_tbl := lw_at lw_m4 56 rfl
theorem q807 : (Jvm.Cond.fieldLinkNest "ChequeDesk" (214 : Nat) "ChequeDesk$Paper" "batch" "I" "ChequeDesk") ∈ lw_tbl := lw_at lw_m4 58 rfl
theorem q812 : (Jvm.Cond.fieldLinkNest "ChequeDesk" (204 : Nat) "ChequeDesk$Paper" "amount" "I" "ChequeDesk") ∈ lw_tbl := lw_at lw_m4 63 rfl
theorem q830 : (Jvm.Cond.instanceMethod ({ cls := "ChequeDesk", name := "amount", desc := "(II)I" } : Jvm.MethodName)) ∈ lw_all := lw_g (lw_at lw_m4 81 rfl) rfl
theorem q831 : (Jvm.Cond.selects "ChequeDesk" ({ cls := "ChequeDesk", name := "amount", desc := "(II)I" } : Jvm.MethodName) ({ cls := "ChequeDesk", name := "amount", desc := "(II)I" } : Jvm.MethodName)) ∈ lw_all := lw_g (lw_at lw_m4 82 rfl) rfl
theorem q832 : (Jvm.Cond.code ({ cls := "ChequeDesk", name := "amount", desc := "(II)I" } : Jvm.MethodName) prog_1_method_24_code (4 : Nat) (Option.some Jvm.ClassFile.FieldType.int)) ∈ lw_all := lw_g (lw_at lw_m4 83 rfl) rfl
theorem q837 : (Jvm.Cond.instanceMethod ({ cls := "ChequeDesk", name := "out", desc := "(I)J" } : Jvm.MethodName)) ∈ lw_all := lw_g (lw_at lw_m4 88 rfl) rfl
theorem q838 : (Jvm.Cond.selects "ChequeDesk" ({ cls := "ChequeDesk", name := "out", desc := "(I)J" } : Jvm.MethodName) ({ cls := "ChequeDesk", name := "out", desc := "(I)J" } : Jvm.MethodName)) ∈ lw_all := lw_g (lw_at lw_m4 89 rfl) rfl
theorem q839 : (Jvm.Cond.code ({ cls := "ChequeDesk", name := "out", desc := "(I)J" } : Jvm.MethodName) prog_1_method_26_code (5 : Nat) (Option.some Jvm.ClassFile.FieldType.long)) ∈ lw_all := lw_g (lw_at lw_m4 90 rfl) rfl
theorem q840 : (Jvm.Cond.classLink "ChequeDesk" (182 : Nat) "java/lang/Integer") ∈ lw_all := lw_g (lw_at lw_m4 91 rfl) rfl
theorem q841 : (Jvm.Cond.methodLink "ChequeDesk" (211 : Nat) ({ cls := "java/lang/Integer", name := "intValue", desc := "()I" } : Jvm.MethodName)) ∈ lw_all := lw_g (lw_at lw_m4 92 rfl) rfl
theorem q849 : (Jvm.Cond.instanceMethod ({ cls := "ChequeDesk", name := "slips", desc := "(I)I" } : Jvm.MethodName)) ∈ lw_all := lw_g (lw_at lw_m4 100 rfl) rfl
theorem q850 : (Jvm.Cond.selects "ChequeDesk" ({ cls := "ChequeDesk", name := "slips", desc := "(I)I" } : Jvm.MethodName) ({ cls := "ChequeDesk", name := "slips", desc := "(I)I" } : Jvm.MethodName)) ∈ lw_all := lw_g (lw_at lw_m4 101 rfl) rfl
theorem q851 : (Jvm.Cond.code ({ cls := "ChequeDesk", name := "slips", desc := "(I)I" } : Jvm.MethodName) prog_1_method_30_code (2 : Nat) (Option.some Jvm.ClassFile.FieldType.int)) ∈ lw_all := lw_g (lw_at lw_m4 102 rfl) rfl
theorem q852 : (Jvm.Cond.methodLink "ChequeDesk" (246 : Nat) ({ cls := "ChequeDesk", name := "slipsOf", desc := "(I)Ljava/util/ArrayList;" } : Jvm.MethodName)) ∈ lw_all := lw_g (lw_at lw_m4 103 rfl) rfl
theorem q853 : (Jvm.Cond.privateMethod ({ cls := "ChequeDesk", name := "slipsOf", desc := "(I)Ljava/util/ArrayList;" } : Jvm.MethodName)) ∈ lw_tbl := lw_at lw_m4 104 rfl
theorem q854 : (Jvm.Cond.instanceMethod ({ cls := "ChequeDesk", name := "slipsOf", desc := "(I)Ljava/util/ArrayList;" } : Jvm.MethodName)) ∈ lw_all := lw_g (lw_at lw_m4 105 rfl) rfl
theorem q855 : (Jvm.Cond.code ({ cls := "ChequeDesk", name := "slipsOf", desc := "(I)Ljava/util/ArrayList;" } : Jvm.MethodName) prog_1_method_27_code (9 : Nat) (Option.some (Jvm.ClassFile.FieldType.object "java/util/ArrayList"))) ∈ lw_all := lw_g (lw_at lw_m4 106 rfl) rfl
theorem q856 : (Jvm.Cond.methodLink "ChequeDesk" (217 : Nat) ({ cls := "ChequeDesk", name := "out", desc := "(I)J" } : Jvm.MethodName)) ∈ lw_all := lw_g (lw_at lw_m4 107 rfl) rfl
theorem q857 : (Jvm.Cond.constantLong "ChequeDesk" (221 : Nat) (9999999 : Int64)) ∈ lw_all := lw_g (lw_at lw_m4 108 rfl) rfl
theorem q858 : (Jvm.Cond.methodLink "ChequeDesk" (223 : Nat) ({ cls := "ChequeDesk", name := "unlike", desc := "(II)I" } : Jvm.MethodName)) ∈ lw_all := lw_g (lw_at lw_m4 109 rfl) rfl
theorem q859 : (Jvm.Cond.static ({ cls := "ChequeDesk", name := "unlike", desc := "(II)I" } : Jvm.MethodName)) ∈ lw_all := lw_g (lw_at lw_m4 110 rfl) rfl
theorem q860 : (Jvm.Cond.code ({ cls := "ChequeDesk", name := "unlike", desc := "(II)I" } : Jvm.MethodName) prog_1_method_28_code (6 : Nat) (Option.some Jvm.ClassFile.FieldType.int)) ∈ lw_all := lw_g (lw_at lw_m4 111 rfl) rfl
theorem q861 : (Jvm.Cond.classLink "ChequeDesk" (226 : Nat) "ChequeDesk$Slip") ∈ lw_all := lw_g (lw_at lw_m4 112 rfl) rfl
theorem q863 : (Jvm.Cond.methodLink "ChequeDesk" (228 : Nat) ({ cls := "ChequeDesk$Slip", name := "<init>", desc := "(LChequeDesk$Paper;I)V" } : Jvm.MethodName)) ∈ lw_all := lw_g (lw_at lw_m4 114 rfl) rfl
theorem q868 : (Jvm.Cond.fieldLink "ChequeDesk" (253 : Nat) "ChequeDesk$Slip" "paper" "LChequeDesk$Paper;") ∈ lw_all := lw_g (lw_at lw_m4 119 rfl) rfl
theorem q870 : (Jvm.Cond.fieldLink "ChequeDesk" (260 : Nat) "ChequeDesk$Slip" "due" "I") ∈ lw_all := lw_g (lw_at lw_m4 121 rfl) rfl
theorem q876 : (Jvm.Cond.methodLink "ChequeDesk" (231 : Nat) ({ cls := "ChequeDesk", name := "isSwapped", desc := "(II)Z" } : Jvm.MethodName)) ∈ lw_all := lw_g (lw_at lw_m4 127 rfl) rfl
theorem q877 : (Jvm.Cond.static ({ cls := "ChequeDesk", name := "isSwapped", desc := "(II)Z" } : Jvm.MethodName)) ∈ lw_all := lw_g (lw_at lw_m4 128 rfl) rfl
theorem q878 : (Jvm.Cond.code ({ cls := "ChequeDesk", name := "isSwapped", desc := "(II)Z" } : Jvm.MethodName) prog_1_method_29_code (6 : Nat) (Option.some Jvm.ClassFile.FieldType.boolean)) ∈ lw_all := lw_g (lw_at lw_m4 129 rfl) rfl
theorem q879 : (Jvm.Cond.classLink "ChequeDesk" (235 : Nat) "ChequeDesk$Swapped") ∈ lw_all := lw_g (lw_at lw_m4 130 rfl) rfl
theorem q881 : (Jvm.Cond.methodLink "ChequeDesk" (237 : Nat) ({ cls := "ChequeDesk$Swapped", name := "<init>", desc := "(LChequeDesk$Paper;I)V" } : Jvm.MethodName)) ∈ lw_all := lw_g (lw_at lw_m4 132 rfl) rfl
theorem q888 : (Jvm.Cond.classLink "ChequeDesk" (238 : Nat) "ChequeDesk$Doubled") ∈ lw_all := lw_g (lw_at lw_m4 139 rfl) rfl
theorem q890 : (Jvm.Cond.methodLink "ChequeDesk" (240 : Nat) ({ cls := "ChequeDesk$Doubled", name := "<init>", desc := "(LChequeDesk$Paper;)V" } : Jvm.MethodName)) ∈ lw_all := lw_g (lw_at lw_m4 141 rfl) rfl
theorem q897 : (Jvm.Cond.classLink "ChequeDesk" (243 : Nat) "ChequeDesk$Lacking") ∈ lw_all := lw_g (lw_at lw_m4 148 rfl) rfl
theorem q899 : (Jvm.Cond.methodLink "ChequeDesk" (245 : Nat) ({ cls := "ChequeDesk$Lacking", name := "<init>", desc := "(I)V" } : Jvm.MethodName)) ∈ lw_all := lw_g (lw_at lw_m4 150 rfl) rfl
theorem q910 : (Jvm.Cond.instanceMethod ({ cls := "ChequeDesk", name := "slip", desc := "(III)I" } : Jvm.MethodName)) ∈ lw_all := lw_g (lw_at lw_m4 161 rfl) rfl
theorem q911 : (Jvm.Cond.selects "ChequeDesk" ({ cls := "ChequeDesk", name := "slip", desc := "(III)I" } : Jvm.MethodName) ({ cls := "ChequeDesk", name := "slip", desc := "(III)I" } : Jvm.MethodName)) ∈ lw_all := lw_g (lw_at lw_m4 162 rfl) rfl
theorem q912 : (Jvm.Cond.code ({ cls := "ChequeDesk", name := "slip", desc := "(III)I" } : Jvm.MethodName) prog_1_method_31_code (6 : Nat) (Option.some Jvm.ClassFile.FieldType.int)) ∈ lw_all := lw_g (lw_at lw_m4 163 rfl) rfl
theorem q913 : (Jvm.Cond.methodLink "ChequeDesk" (250 : Nat) ({ cls := "ChequeDesk$Slip", name := "kind", desc := "()I" } : Jvm.MethodName)) ∈ lw_all := lw_g (lw_at lw_m4 164 rfl) rfl
theorem q1199 : (Jvm.Cond.castable "ChequeDesk" "java/lang/Object") ∈ lw_tbl := lw_at lw_m5 210 rfl
theorem in_X1 : ∀ w ∈ wsX10, w ∈ lw_all := lw_in wsX10 [425, 427, 429, 431, 433, 435, 437, 439, 441, 443, 445] (by decide +kernel) (by decide +kernel)
theorem q50 : (Jvm.Cond.initialized "ChequeDeskModel") ∈ lw_all := lw_g (lw_at lw_m1 21 rfl) rfl
theorem q577 : (Jvm.Cond.selects "ChequeDeskModel" ({ cls := "java/lang/Object", name := "getClass", desc := "()Ljava/lang/Class;" } : Jvm.MethodName) ({ cls := "java/lang/Object", name := "getClass", desc := "()Ljava/lang/Class;" } : Jvm.MethodName)) ∈ lw_all := lw_g (lw_at lw_m3 68 rfl) rfl
theorem q928 : (Jvm.Cond.instantiable "ChequeDeskModel" (31 : Nat)) ∈ lw_all := lw_g (lw_at lw_m4 179 rfl) rfl
theorem q930 : (Jvm.Cond.instanceMethod ({ cls := "ChequeDeskModel", name := "<init>", desc := "()V" } : Jvm.MethodName)) ∈ lw_all := lw_g (lw_at lw_m4 181 rfl) rfl
theorem q931 : (Jvm.Cond.code ({ cls := "ChequeDeskModel", name := "<init>", desc := "()V" } : Jvm.MethodName) prog_10_method_1_code (1 : Nat) (Option.none : Option Jvm.ClassFile.FieldType)) ∈ lw_all := lw_g (lw_at lw_m4 182 rfl) rfl
theorem q932 : (Jvm.Cond.methodLink "ChequeDeskModel" (1 : Nat) ({ cls := "java/lang/Object", name := "<init>", desc := "()V" } : Jvm.MethodName)) ∈ lw_all := lw_g (lw_at lw_m4 183 rfl) rfl
theorem q933 : (Jvm.Cond.fieldLink "ChequeDeskModel" (58 : Nat) "ChequeDeskModel" "thrown" "I") ∈ lw_all := lw_g (lw_at lw_m4 184 rfl) rfl
theorem q934 : (Jvm.Cond.fieldLink "ChequeDeskModel" (9 : Nat) "ChequeDeskModel" "taught" "[I") ∈ lw_all := lw_g (lw_at lw_m4 185 rfl) rfl
theorem q935 : (Jvm.Cond.fieldLink "ChequeDeskModel" (13 : Nat) "ChequeDeskModel" "ticks" "[I") ∈ lw_all := lw_g (lw_at lw_m4 186 rfl) rfl
theorem q936 : (Jvm.Cond.fieldLink "ChequeDeskModel" (68 : Nat) "ChequeDeskModel" "tickMany" "I") ∈ lw_all := lw_g (lw_at lw_m4 187 rfl) rfl
theorem q937 : (Jvm.Cond.fieldLink "ChequeDeskModel" (16 : Nat) "ChequeDeskModel" "costs" "[I") ∈ lw_all := lw_g (lw_at lw_m4 188 rfl) rfl
theorem q938 : (Jvm.Cond.fieldLink "ChequeDeskModel" (19 : Nat) "ChequeDeskModel" "kept" "[I") ∈ lw_all := lw_g (lw_at lw_m4 189 rfl) rfl
theorem q939 : (Jvm.Cond.fieldLink "ChequeDeskModel" (71 : Nat) "ChequeDeskModel" "places" "I") ∈ lw_all := lw_g (lw_at lw_m4 190 rfl) rfl
theorem q940 : (Jvm.Cond.fieldLink "ChequeDeskModel" (120 : Nat) "ChequeDeskModel" "readPlaces" "I") ∈ lw_all := lw_g (lw_at lw_m4 191 rfl) rfl
theorem q941 : (Jvm.Cond.fieldLink "ChequeDeskModel" (22 : Nat) "ChequeDeskModel" "from" "[I") ∈ lw_all := lw_g (lw_at lw_m4 192 rfl) rfl
theorem q942 : (Jvm.Cond.fieldLink "ChequeDeskModel" (25 : Nat) "ChequeDeskModel" "upTo" "[I") ∈ lw_all := lw_g (lw_at lw_m4 193 rfl) rfl
theorem q943 : (Jvm.Cond.fieldLink "ChequeDeskModel" (106 : Nat) "ChequeDeskModel" "cost" "I") ∈ lw_all := lw_g (lw_at lw_m4 194 rfl) rfl
theorem q944 : (Jvm.Cond.fieldLink "ChequeDeskModel" (117 : Nat) "ChequeDeskModel" "gap" "I") ∈ lw_all := lw_g (lw_at lw_m4 195 rfl) rfl
theorem q945 : (Jvm.Cond.fieldLink "ChequeDeskModel" (123 : Nat) "ChequeDeskModel" "isRead" "Z") ∈ lw_all := lw_g (lw_at lw_m4 196 rfl) rfl
theorem q946 : (Jvm.Cond.fieldLink "ChequeDeskModel" (102 : Nat) "ChequeDeskModel" "isTurned" "Z") ∈ lw_all := lw_g (lw_at lw_m4 197 rfl) rfl
theorem q947 : (Jvm.Cond.fieldLink "ChequeDeskModel" (28 : Nat) "ChequeDeskModel" "signs" "[I") ∈ lw_all := lw_g (lw_at lw_m4 198 rfl) rfl
theorem q948 : (Jvm.Cond.fieldLink "ChequeDeskModel" (31 : Nat) "ChequeDeskModel" "speeds" "[I") ∈ lw_all := lw_g (lw_at lw_m4 199 rfl) rfl
theorem q949 : (Jvm.Cond.fieldLink "ChequeDeskModel" (34 : Nat) "ChequeDeskModel" "told" "[I") ∈ lw_all := lw_g (lw_at lw_m4 200 rfl) rfl
theorem q950 : (Jvm.Cond.fieldLink "ChequeDeskModel" (37 : Nat) "ChequeDeskModel" "next" "[I") ∈ lw_all := lw_g (lw_at lw_m4 201 rfl) rfl
theorem q951 : (Jvm.Cond.fieldLink "ChequeDeskModel" (136 : Nat) "ChequeDeskModel" "otherPlace" "I") ∈ lw_all := lw_g (lw_at lw_m4 202 rfl) rfl
theorem q952 : (Jvm.Cond.fieldLink "ChequeDeskModel" (139 : Nat) "ChequeDeskModel" "otherSign" "I") ∈ lw_all := lw_g (lw_at lw_m4 203 rfl) rfl
theorem q953 : (Jvm.Cond.fieldLink "ChequeDeskModel" (40 : Nat) "ChequeDeskModel" "toldSum" "[I") ∈ lw_all := lw_g (lw_at lw_m4 204 rfl) rfl
theorem q954 : (Jvm.Cond.fieldLink "ChequeDeskModel" (149 : Nat) "ChequeDeskModel" "batches" "I") ∈ lw_all := lw_g (lw_at lw_m4 205 rfl) rfl
theorem q955 : (Jvm.Cond.fieldLink "ChequeDeskModel" (43 : Nat) "ChequeDeskModel" "paperBatch" "[I") ∈ lw_all := lw_g (lw_at lw_m4 206 rfl) rfl
theorem q956 : (Jvm.Cond.fieldLink "ChequeDeskModel" (46 : Nat) "ChequeDeskModel" "paperAmount" "[I") ∈ lw_all := lw_g (lw_at lw_m4 207 rfl) rfl
theorem q957 : (Jvm.Cond.fieldLink "ChequeDeskModel" (49 : Nat) "ChequeDeskModel" "paperBank" "[I") ∈ lw_all := lw_g (lw_at lw_m4 208 rfl) rfl
theorem q958 : (Jvm.Cond.fieldLink "ChequeDeskModel" (52 : Nat) "ChequeDeskModel" "paperAccount" "[I") ∈ lw_all := lw_g (lw_at lw_m4 209 rfl) rfl
theorem q959 : (Jvm.Cond.fieldLink "ChequeDeskModel" (55 : Nat) "ChequeDeskModel" "paperNumber" "[I") ∈ lw_all := lw_g (lw_at lw_m4 210 rfl) rfl
theorem q960 : (Jvm.Cond.fieldLink "ChequeDeskModel" (154 : Nat) "ChequeDeskModel" "papers" "I") ∈ lw_all := lw_g (lw_at lw_m4 211 rfl) rfl
theorem q961 : (Jvm.Cond.fieldLink "ChequeDeskModel" (176 : Nat) "ChequeDeskModel" "slipKind" "I") ∈ lw_all := lw_g (lw_at lw_m4 212 rfl) rfl
theorem q962 : (Jvm.Cond.fieldLink "ChequeDeskModel" (179 : Nat) "ChequeDeskModel" "slipPaper" "I") ∈ lw_all := lw_g (lw_at lw_m4 213 rfl) rfl
theorem q963 : (Jvm.Cond.fieldLink "ChequeDeskModel" (182 : Nat) "ChequeDeskModel" "slipAmount" "I") ∈ lw_all := lw_g (lw_at lw_m4 214 rfl) rfl
theorem q964 : (Jvm.Cond.lays "ChequeDeskModel" "ChequeDeskModel" "thrown" "I") ∈ lw_all := lw_g (lw_at lw_m4 215 rfl) rfl
theorem q965 : (Jvm.Cond.soleField "ChequeDeskModel" "thrown") ∈ lw_all := lw_g (lw_at lw_m4 216 rfl) rfl
theorem q966 : (Jvm.Cond.laysFinal "ChequeDeskModel" "ChequeDeskModel" "taught" "[I") ∈ lw_all := lw_g (lw_at lw_m4 217 rfl) rfl
theorem q967 : (Jvm.Cond.soleField "ChequeDeskModel" "taught") ∈ lw_all := lw_g (lw_at lw_m4 218 rfl) rfl
theorem q968 : (Jvm.Cond.laysFinal "ChequeDeskModel" "ChequeDeskModel" "ticks" "[I") ∈ lw_all := lw_g (lw_at lw_m4 219 rfl) rfl
theorem q969 : (Jvm.Cond.soleField "ChequeDeskModel" "ticks") ∈ lw_all := lw_g (lw_at lw_m4 220 rfl) rfl
theorem q970 : (Jvm.Cond.lays "ChequeDeskModel" "ChequeDeskModel" "tickMany" "I") ∈ lw_all := lw_g (lw_at lw_m4 221 rfl) rfl
theorem q971 : (Jvm.Cond.soleField "ChequeDeskModel" "tickMany") ∈ lw_all := lw_g (lw_at lw_m4 222 rfl) rfl
theorem q972 : (Jvm.Cond.laysFinal "ChequeDeskModel" "ChequeDeskModel" "costs" "[I") ∈ lw_all := lw_g (lw_at lw_m4 223 rfl) rfl
theorem q973 : (Jvm.Cond.soleField "ChequeDeskModel" "costs") ∈ lw_all := lw_g (lw_at lw_m4 224 rfl) rfl
theorem q974 : (Jvm.Cond.laysFinal "ChequeDeskModel" "ChequeDeskModel" "kept" "[I") ∈ lw_all := lw_g (lw_at lw_m4 225 rfl) rfl
theorem q975 : (Jvm.Cond.soleField "ChequeDeskModel" "kept") ∈ lw_all := lw_g (lw_at lw_m4 226 rfl) rfl
theorem q976 : (Jvm.Cond.lays "ChequeDeskModel" "ChequeDeskModel" "places" "I") ∈ lw_all := lw_g (lw_at lw_m4 227 rfl) rfl
theorem q977 : (Jvm.Cond.soleField "ChequeDeskModel" "places") ∈ lw_all := lw_g (lw_at lw_m4 228 rfl) rfl
theorem q978 : (Jvm.Cond.lays "ChequeDeskModel" "ChequeDeskModel" "readPlaces" "I") ∈ lw_all := lw_g (lw_at lw_m4 229 rfl) rfl
theorem q979 : (Jvm.Cond.soleField "ChequeDeskModel" "readPlaces") ∈ lw_all := lw_g (lw_at lw_m4 230 rfl) rfl
theorem q980 : (Jvm.Cond.laysFinal "ChequeDeskModel" "ChequeDeskModel" "from" "[I") ∈ lw_all := lw_g (lw_at lw_m4 231 rfl) rfl
theorem q981 : (Jvm.Cond.soleField "ChequeDeskModel" "from") ∈ lw_all := lw_g (lw_at lw_m4 232 rfl) rfl
theorem q982 : (Jvm.Cond.laysFinal "ChequeDeskModel" "ChequeDeskModel" "upTo" "[I") ∈ lw_all := lw_g (lw_at lw_m4 233 rfl) rfl
theorem q983 : (Jvm.Cond.soleField "ChequeDeskModel" "upTo") ∈ lw_all := lw_g (lw_at lw_m4 234 rfl) rfl
theorem q984 : (Jvm.Cond.lays "ChequeDeskModel" "ChequeDeskModel" "cost" "I") ∈ lw_all := lw_g (lw_at lw_m4 235 rfl) rfl
theorem q985 : (Jvm.Cond.soleField "ChequeDeskModel" "cost") ∈ lw_all := lw_g (lw_at lw_m4 236 rfl) rfl
theorem q986 : (Jvm.Cond.lays "ChequeDeskModel" "ChequeDeskModel" "gap" "I") ∈ lw_all := lw_g (lw_at lw_m4 237 rfl) rfl
theorem q987 : (Jvm.Cond.soleField "ChequeDeskModel" "gap") ∈ lw_all := lw_g (lw_at lw_m4 238 rfl) rfl
theorem q988 : (Jvm.Cond.lays "ChequeDeskModel" "ChequeDeskModel" "isRead" "Z") ∈ lw_all := lw_g (lw_at lw_m4 239 rfl) rfl
theorem q989 : (Jvm.Cond.soleField "ChequeDeskModel" "isRead") ∈ lw_all := lw_g (lw_at lw_m5 0 rfl) rfl
theorem q990 : (Jvm.Cond.lays "ChequeDeskModel" "ChequeDeskModel" "isTurned" "Z") ∈ lw_all := lw_g (lw_at lw_m5 1 rfl) rfl
theorem q991 : (Jvm.Cond.soleField "ChequeDeskModel" "isTurned") ∈ lw_all := lw_g (lw_at lw_m5 2 rfl) rfl
theorem q992 : (Jvm.Cond.laysFinal "ChequeDeskModel" "ChequeDeskModel" "signs" "[I") ∈ lw_all := lw_g (lw_at lw_m5 3 rfl) rfl
theorem q993 : (Jvm.Cond.soleField "ChequeDeskModel" "signs") ∈ lw_all := lw_g (lw_at lw_m5 4 rfl) rfl
theorem q994 : (Jvm.Cond.laysFinal "ChequeDeskModel" "ChequeDeskModel" "speeds" "[I") ∈ lw_all := lw_g (lw_at lw_m5 5 rfl) rfl
theorem q995 : (Jvm.Cond.soleField "ChequeDeskModel" "speeds") ∈ lw_all := lw_g (lw_at lw_m5 6 rfl) rfl
theorem q996 : (Jvm.Cond.laysFinal "ChequeDeskModel" "ChequeDeskModel" "told" "[I") ∈ lw_all := lw_g (lw_at lw_m5 7 rfl) rfl
theorem q997 : (Jvm.Cond.soleField "ChequeDeskModel" "told") ∈ lw_all := lw_g (lw_at lw_m5 8 rfl) rfl
theorem q998 : (Jvm.Cond.laysFinal "ChequeDeskModel" "ChequeDeskModel" "next" "[I") ∈ lw_all := lw_g (lw_at lw_m5 9 rfl) rfl
theorem q999 : (Jvm.Cond.soleField "ChequeDeskModel" "next") ∈ lw_all := lw_g (lw_at lw_m5 10 rfl) rfl
theorem q1000 : (Jvm.Cond.lays "ChequeDeskModel" "ChequeDeskModel" "otherPlace" "I") ∈ lw_all := lw_g (lw_at lw_m5 11 rfl) rfl
theorem q1001 : (Jvm.Cond.soleField "ChequeDeskModel" "otherPlace") ∈ lw_all := lw_g (lw_at lw_m5 12 rfl) rfl
theorem q1002 : (Jvm.Cond.lays "ChequeDeskModel" "ChequeDeskModel" "otherSign" "I") ∈ lw_all := lw_g (lw_at lw_m5 13 rfl) rfl
theorem q1003 : (Jvm.Cond.soleField "ChequeDeskModel" "otherSign") ∈ lw_all := lw_g (lw_at lw_m5 14 rfl) rfl
theorem q1004 : (Jvm.Cond.laysFinal "ChequeDeskModel" "ChequeDeskModel" "toldSum" "[I") ∈ lw_all := lw_g (lw_at lw_m5 15 rfl) rfl
theorem q1005 : (Jvm.Cond.soleField "ChequeDeskModel" "toldSum") ∈ lw_all := lw_g (lw_at lw_m5 16 rfl) rfl
theorem q1006 : (Jvm.Cond.lays "ChequeDeskModel" "ChequeDeskModel" "batches" "I") ∈ lw_all := lw_g (lw_at lw_m5 17 rfl) rfl
theorem q1007 : (Jvm.Cond.soleField "ChequeDeskModel" "batches") ∈ lw_all := lw_g (lw_at lw_m5 18 rfl) rfl
theorem q1008 : (Jvm.Cond.laysFinal "ChequeDeskModel" "ChequeDeskModel" "paperBatch" "[I") ∈ lw_all := lw_g (lw_at lw_m5 19 rfl) rfl
theorem q1009 : (Jvm.Cond.soleField "ChequeDeskModel" "paperBatch") ∈ lw_all := lw_g (lw_at lw_m5 20 rfl) rfl
theorem q1010 : (Jvm.Cond.laysFinal "ChequeDeskModel" "ChequeDeskModel" "paperAmount" "[I") ∈ lw_all := lw_g (lw_at lw_m5 21 rfl) rfl
theorem q1011 : (Jvm.Cond.soleField "ChequeDeskModel" "paperAmount") ∈ lw_all := lw_g (lw_at lw_m5 22 rfl) rfl
theorem q1012 : (Jvm.Cond.laysFinal "ChequeDeskModel" "ChequeDeskModel" "paperBank" "[I") ∈ lw_all := lw_g (lw_at lw_m5 23 rfl) rfl
theorem q1013 : (Jvm.Cond.soleField "ChequeDeskModel" "paperBank") ∈ lw_all := lw_g (lw_at lw_m5 24 rfl) rfl
theorem q1014 : (Jvm.Cond.laysFinal "ChequeDeskModel" "ChequeDeskModel" "paperAccount" "[I") ∈ lw_all := lw_g (lw_at lw_m5 25 rfl) rfl
theorem q1015 : (Jvm.Cond.soleField "ChequeDeskModel" "paperAccount") ∈ lw_all := lw_g (lw_at lw_m5 26 rfl) rfl
theorem q1016 : (Jvm.Cond.laysFinal "ChequeDeskModel" "ChequeDeskModel" "paperNumber" "[I") ∈ lw_all := lw_g (lw_at lw_m5 27 rfl) rfl
theorem q1017 : (Jvm.Cond.soleField "ChequeDeskModel" "paperNumber") ∈ lw_all := lw_g (lw_at lw_m5 28 rfl) rfl
theorem q1018 : (Jvm.Cond.lays "ChequeDeskModel" "ChequeDeskModel" "papers" "I") ∈ lw_all := lw_g (lw_at lw_m5 29 rfl) rfl
theorem q1019 : (Jvm.Cond.soleField "ChequeDeskModel" "papers") ∈ lw_all := lw_g (lw_at lw_m5 30 rfl) rfl
theorem q1020 : (Jvm.Cond.lays "ChequeDeskModel" "ChequeDeskModel" "slipKind" "I") ∈ lw_all := lw_g (lw_at lw_m5 31 rfl) rfl
theorem q1021 : (Jvm.Cond.soleField "ChequeDeskModel" "slipKind") ∈ lw_all := lw_g (lw_at lw_m5 32 rfl) rfl
theorem q1022 : (Jvm.Cond.lays "ChequeDeskModel" "ChequeDeskModel" "slipPaper" "I") ∈ lw_all := lw_g (lw_at lw_m5 33 rfl) rfl
theorem q1023 : (Jvm.Cond.soleField "ChequeDeskModel" "slipPaper") ∈ lw_all := lw_g (lw_at lw_m5 34 rfl) rfl
theorem q1024 : (Jvm.Cond.lays "ChequeDeskModel" "ChequeDeskModel" "slipAmount" "I") ∈ lw_all := lw_g (lw_at lw_m5 35 rfl) rfl
theorem q1025 : (Jvm.Cond.soleField "ChequeDeskModel" "slipAmount") ∈ lw_all := lw_g (lw_at lw_m5 36 rfl) rfl
theorem q1026 : (Jvm.Cond.superclass "ChequeDeskModel" "java/lang/Object") ∈ lw_all := lw_g (lw_at lw_m5 37 rfl) rfl
theorem q1028 : (Jvm.Cond.instanceMethod ({ cls := "ChequeDeskModel", name := "thrown", desc := "()I" } : Jvm.MethodName)) ∈ lw_all := lw_g (lw_at lw_m5 39 rfl) rfl
theorem q1029 : (Jvm.Cond.selects "ChequeDeskModel" ({ cls := "ChequeDeskModel", name := "thrown", desc := "()I" } : Jvm.MethodName) ({ cls := "ChequeDeskModel", name := "thrown", desc := "()I" } : Jvm.MethodName)) ∈ lw_all := lw_g (lw_at lw_m5 40 rfl) rfl
theorem q1030 : (Jvm.Cond.code ({ cls := "ChequeDeskModel", name := "thrown", desc := "()I" } : Jvm.MethodName) prog_10_method_2_code (1 : Nat) (Option.some Jvm.ClassFile.FieldType.int)) ∈ lw_all := lw_g (lw_at lw_m5 41 rfl) rfl
theorem q1032 : (Jvm.Cond.instanceMethod ({ cls := "ChequeDeskModel", name := "teach", desc := "(II)I" } : Jvm.MethodName)) ∈ lw_all := lw_g (lw_at lw_m5 43 rfl) rfl
theorem q1033 : (Jvm.Cond.selects "ChequeDeskModel" ({ cls := "ChequeDeskModel", name := "teach", desc := "(II)I" } : Jvm.MethodName) ({ cls := "ChequeDeskModel", name := "teach", desc := "(II)I" } : Jvm.MethodName)) ∈ lw_all := lw_g (lw_at lw_m5 44 rfl) rfl
theorem q1034 : (Jvm.Cond.code ({ cls := "ChequeDeskModel", name := "teach", desc := "(II)I" } : Jvm.MethodName) prog_10_method_4_code (6 : Nat) (Option.some Jvm.ClassFile.FieldType.int)) ∈ lw_all := lw_g (lw_at lw_m5 45 rfl) rfl
theorem q1035 : (Jvm.Cond.constant "ChequeDeskModel" (62 : Nat) (111111 : Int32)) ∈ lw_all := lw_g (lw_at lw_m5 46 rfl) rfl
theorem q1036 : (Jvm.Cond.constant "ChequeDeskModel" (63 : Nat) (333333 : Int32)) ∈ lw_all := lw_g (lw_at lw_m5 47 rfl) rfl
theorem q1037 : (Jvm.Cond.methodLink "ChequeDeskModel" (64 : Nat) ({ cls := "ChequeDeskModel", name := "bad", desc := "(ZI)Z" } : Jvm.MethodName)) ∈ lw_all := lw_g (lw_at lw_m5 48 rfl) rfl
theorem q1038 : (Jvm.Cond.privateMethod ({ cls := "ChequeDeskModel", name := "bad", desc := "(ZI)Z" } : Jvm.MethodName)) ∈ lw_tbl := lw_at lw_m5 49 rfl
theorem q1039 : (Jvm.Cond.instanceMethod ({ cls := "ChequeDeskModel", name := "bad", desc := "(ZI)Z" } : Jvm.MethodName)) ∈ lw_all := lw_g (lw_at lw_m5 50 rfl) rfl
theorem q1040 : (Jvm.Cond.code ({ cls := "ChequeDeskModel", name := "bad", desc := "(ZI)Z" } : Jvm.MethodName) prog_10_method_3_code (3 : Nat) (Option.some Jvm.ClassFile.FieldType.boolean)) ∈ lw_all := lw_g (lw_at lw_m5 51 rfl) rfl
theorem q1042 : (Jvm.Cond.instanceMethod ({ cls := "ChequeDeskModel", name := "tick", desc := "(I)I" } : Jvm.MethodName)) ∈ lw_all := lw_g (lw_at lw_m5 53 rfl) rfl
theorem q1043 : (Jvm.Cond.selects "ChequeDeskModel" ({ cls := "ChequeDeskModel", name := "tick", desc := "(I)I" } : Jvm.MethodName) ({ cls := "ChequeDeskModel", name := "tick", desc := "(I)I" } : Jvm.MethodName)) ∈ lw_all := lw_g (lw_at lw_m5 54 rfl) rfl
theorem q1044 : (Jvm.Cond.code ({ cls := "ChequeDeskModel", name := "tick", desc := "(I)I" } : Jvm.MethodName) prog_10_method_5_code (2 : Nat) (Option.some Jvm.ClassFile.FieldType.int)) ∈ lw_all := lw_g (lw_at lw_m5 55 rfl) rfl
theorem q1046 : (Jvm.Cond.instanceMethod ({ cls := "ChequeDeskModel", name := "read", desc := "()I" } : Jvm.MethodName)) ∈ lw_all := lw_g (lw_at lw_m5 57 rfl) rfl
theorem q1047 : (Jvm.Cond.selects "ChequeDeskModel" ({ cls := "ChequeDeskModel", name := "read", desc := "()I" } : Jvm.MethodName) ({ cls := "ChequeDeskModel", name := "read", desc := "()I" } : Jvm.MethodName)) ∈ lw_all := lw_g (lw_at lw_m5 58 rfl) rfl
theorem q1048 : (Jvm.Cond.code ({ cls := "ChequeDeskModel", name := "read", desc := "()I" } : Jvm.MethodName) prog_10_method_15_code (4 : Nat) (Option.some Jvm.ClassFile.FieldType.int)) ∈ lw_all := lw_g (lw_at lw_m5 59 rfl) rfl
theorem q1049 : (Jvm.Cond.methodLink "ChequeDeskModel" (94 : Nat) ({ cls := "ChequeDeskModel", name := "fills", desc := "(Z)V" } : Jvm.MethodName)) ∈ lw_all := lw_g (lw_at lw_m5 60 rfl) rfl
theorem q1050 : (Jvm.Cond.privateMethod ({ cls := "ChequeDeskModel", name := "fills", desc := "(Z)V" } : Jvm.MethodName)) ∈ lw_tbl := lw_at lw_m5 61 rfl
theorem q1051 : (Jvm.Cond.instanceMethod ({ cls := "ChequeDeskModel", name := "fills", desc := "(Z)V" } : Jvm.MethodName)) ∈ lw_all := lw_g (lw_at lw_m5 62 rfl) rfl
theorem q1052 : (Jvm.Cond.code ({ cls := "ChequeDeskModel", name := "fills", desc := "(Z)V" } : Jvm.MethodName) prog_10_method_8_code (5 : Nat) (Option.none : Option Jvm.ClassFile.FieldType)) ∈ lw_all := lw_g (lw_at lw_m5 63 rfl) rfl
theorem q1053 : (Jvm.Cond.methodLink "ChequeDeskModel" (74 : Nat) ({ cls := "ChequeDeskModel", name := "cell", desc := "(III)I" } : Jvm.MethodName)) ∈ lw_all := lw_g (lw_at lw_m5 64 rfl) rfl
theorem q1054 : (Jvm.Cond.static ({ cls := "ChequeDeskModel", name := "cell", desc := "(III)I" } : Jvm.MethodName)) ∈ lw_all := lw_g (lw_at lw_m5 65 rfl) rfl
theorem q1055 : (Jvm.Cond.code ({ cls := "ChequeDeskModel", name := "cell", desc := "(III)I" } : Jvm.MethodName) prog_10_method_6_code (3 : Nat) (Option.some Jvm.ClassFile.FieldType.int)) ∈ lw_all := lw_g (lw_at lw_m5 66 rfl) rfl
theorem q1056 : (Jvm.Cond.methodLink "ChequeDeskModel" (78 : Nat) ({ cls := "ChequeDeskModel", name := "costOf", desc := "(IIIZ)I" } : Jvm.MethodName)) ∈ lw_all := lw_g (lw_at lw_m5 67 rfl) rfl
theorem q1057 : (Jvm.Cond.privateMethod ({ cls := "ChequeDeskModel", name := "costOf", desc := "(IIIZ)I" } : Jvm.MethodName)) ∈ lw_tbl := lw_at lw_m5 68 rfl
theorem q1058 : (Jvm.Cond.instanceMethod ({ cls := "ChequeDeskModel", name := "costOf", desc := "(IIIZ)I" } : Jvm.MethodName)) ∈ lw_all := lw_g (lw_at lw_m5 69 rfl) rfl
theorem q1059 : (Jvm.Cond.code ({ cls := "ChequeDeskModel", name := "costOf", desc := "(IIIZ)I" } : Jvm.MethodName) prog_10_method_7_code (10 : Nat) (Option.some Jvm.ClassFile.FieldType.int)) ∈ lw_all := lw_g (lw_at lw_m5 70 rfl) rfl
theorem q1060 : (Jvm.Cond.methodLink "ChequeDeskModel" (98 : Nat) ({ cls := "ChequeDeskModel", name := "sums", desc := "()I" } : Jvm.MethodName)) ∈ lw_all := lw_g (lw_at lw_m5 71 rfl) rfl
theorem q1061 : (Jvm.Cond.privateMethod ({ cls := "ChequeDeskModel", name := "sums", desc := "()I" } : Jvm.MethodName)) ∈ lw_tbl := lw_at lw_m5 72 rfl
theorem q1062 : (Jvm.Cond.instanceMethod ({ cls := "ChequeDeskModel", name := "sums", desc := "()I" } : Jvm.MethodName)) ∈ lw_all := lw_g (lw_at lw_m5 73 rfl) rfl
theorem q1063 : (Jvm.Cond.code ({ cls := "ChequeDeskModel", name := "sums", desc := "()I" } : Jvm.MethodName) prog_10_method_11_code (3 : Nat) (Option.some Jvm.ClassFile.FieldType.int)) ∈ lw_all := lw_g (lw_at lw_m5 74 rfl) rfl
theorem q1064 : (Jvm.Cond.methodLink "ChequeDeskModel" (83 : Nat) ({ cls := "ChequeDeskModel", name := "cheapest", desc := "(II)I" } : Jvm.MethodName)) ∈ lw_all := lw_g (lw_at lw_m5 75 rfl) rfl
theorem q1065 : (Jvm.Cond.privateMethod ({ cls := "ChequeDeskModel", name := "cheapest", desc := "(II)I" } : Jvm.MethodName)) ∈ lw_tbl := lw_at lw_m5 76 rfl
theorem q1066 : (Jvm.Cond.instanceMethod ({ cls := "ChequeDeskModel", name := "cheapest", desc := "(II)I" } : Jvm.MethodName)) ∈ lw_all := lw_g (lw_at lw_m5 77 rfl) rfl
theorem q1067 : (Jvm.Cond.code ({ cls := "ChequeDeskModel", name := "cheapest", desc := "(II)I" } : Jvm.MethodName) prog_10_method_10_code (5 : Nat) (Option.some Jvm.ClassFile.FieldType.int)) ∈ lw_all := lw_g (lw_at lw_m5 78 rfl) rfl
theorem q1068 : (Jvm.Cond.constant "ChequeDeskModel" (82 : Nat) (100000000 : Int32)) ∈ lw_all := lw_g (lw_at lw_m5 79 rfl) rfl
theorem q1069 : (Jvm.Cond.methodLink "ChequeDeskModel" (87 : Nat) ({ cls := "ChequeDeskModel", name := "near", desc := "([III)I" } : Jvm.MethodName)) ∈ lw_all := lw_g (lw_at lw_m5 80 rfl) rfl
theorem q1070 : (Jvm.Cond.static ({ cls := "ChequeDeskModel", name := "near", desc := "([III)I" } : Jvm.MethodName)) ∈ lw_all := lw_g (lw_at lw_m5 81 rfl) rfl
theorem q1071 : (Jvm.Cond.code ({ cls := "ChequeDeskModel", name := "near", desc := "([III)I" } : Jvm.MethodName) prog_10_method_9_code (4 : Nat) (Option.some Jvm.ClassFile.FieldType.int)) ∈ lw_all := lw_g (lw_at lw_m5 82 rfl) rfl
theorem q1072 : (Jvm.Cond.methodLink "ChequeDeskModel" (109 : Nat) ({ cls := "ChequeDeskModel", name := "chooses", desc := "(I)V" } : Jvm.MethodName)) ∈ lw_all := lw_g (lw_at lw_m5 83 rfl) rfl
theorem q1073 : (Jvm.Cond.privateMethod ({ cls := "ChequeDeskModel", name := "chooses", desc := "(I)V" } : Jvm.MethodName)) ∈ lw_tbl := lw_at lw_m5 84 rfl
theorem q1074 : (Jvm.Cond.instanceMethod ({ cls := "ChequeDeskModel", name := "chooses", desc := "(I)V" } : Jvm.MethodName)) ∈ lw_all := lw_g (lw_at lw_m5 85 rfl) rfl
theorem q1075 : (Jvm.Cond.code ({ cls := "ChequeDeskModel", name := "chooses", desc := "(I)V" } : Jvm.MethodName) prog_10_method_13_code (5 : Nat) (Option.none : Option Jvm.ClassFile.FieldType)) ∈ lw_all := lw_g (lw_at lw_m5 86 rfl) rfl
theorem q1076 : (Jvm.Cond.methodLink "ChequeDeskModel" (91 : Nat) ({ cls := "ChequeDeskModel", name := "withSign", desc := "(II)I" } : Jvm.MethodName)) ∈ lw_all := lw_g (lw_at lw_m5 87 rfl) rfl
theorem q1077 : (Jvm.Cond.privateMethod ({ cls := "ChequeDeskModel", name := "withSign", desc := "(II)I" } : Jvm.MethodName)) ∈ lw_tbl := lw_at lw_m5 88 rfl
theorem q1078 : (Jvm.Cond.instanceMethod ({ cls := "ChequeDeskModel", name := "withSign", desc := "(II)I" } : Jvm.MethodName)) ∈ lw_all := lw_g (lw_at lw_m5 89 rfl) rfl
theorem q1079 : (Jvm.Cond.code ({ cls := "ChequeDeskModel", name := "withSign", desc := "(II)I" } : Jvm.MethodName) prog_10_method_12_code (6 : Nat) (Option.some Jvm.ClassFile.FieldType.int)) ∈ lw_all := lw_g (lw_at lw_m5 90 rfl) rfl
theorem q1080 : (Jvm.Cond.methodLink "ChequeDeskModel" (113 : Nat) ({ cls := "ChequeDeskModel", name := "gapOf", desc := "(I)I" } : Jvm.MethodName)) ∈ lw_all := lw_g (lw_at lw_m5 91 rfl) rfl
theorem q1081 : (Jvm.Cond.privateMethod ({ cls := "ChequeDeskModel", name := "gapOf", desc := "(I)I" } : Jvm.MethodName)) ∈ lw_tbl := lw_at lw_m5 92 rfl
theorem q1082 : (Jvm.Cond.instanceMethod ({ cls := "ChequeDeskModel", name := "gapOf", desc := "(I)I" } : Jvm.MethodName)) ∈ lw_all := lw_g (lw_at lw_m5 93 rfl) rfl
theorem q1083 : (Jvm.Cond.code ({ cls := "ChequeDeskModel", name := "gapOf", desc := "(I)I" } : Jvm.MethodName) prog_10_method_14_code (6 : Nat) (Option.some Jvm.ClassFile.FieldType.int)) ∈ lw_all := lw_g (lw_at lw_m5 94 rfl) rfl
theorem q1085 : (Jvm.Cond.instanceMethod ({ cls := "ChequeDeskModel", name := "about", desc := "(I)I" } : Jvm.MethodName)) ∈ lw_all := lw_g (lw_at lw_m5 96 rfl) rfl
theorem q1086 : (Jvm.Cond.selects "ChequeDeskModel" ({ cls := "ChequeDeskModel", name := "about", desc := "(I)I" } : Jvm.MethodName) ({ cls := "ChequeDeskModel", name := "about", desc := "(I)I" } : Jvm.MethodName)) ∈ lw_all := lw_g (lw_at lw_m5 97 rfl) rfl
theorem q1087 : (Jvm.Cond.code ({ cls := "ChequeDeskModel", name := "about", desc := "(I)I" } : Jvm.MethodName) prog_10_method_18_code (2 : Nat) (Option.some Jvm.ClassFile.FieldType.int)) ∈ lw_all := lw_g (lw_at lw_m5 98 rfl) rfl
theorem q1088 : (Jvm.Cond.methodLink "ChequeDeskModel" (129 : Nat) ({ cls := "ChequeDeskModel", name := "fits", desc := "()Z" } : Jvm.MethodName)) ∈ lw_all := lw_g (lw_at lw_m5 99 rfl) rfl
theorem q1089 : (Jvm.Cond.privateMethod ({ cls := "ChequeDeskModel", name := "fits", desc := "()Z" } : Jvm.MethodName)) ∈ lw_tbl := lw_at lw_m5 100 rfl
theorem q1090 : (Jvm.Cond.instanceMethod ({ cls := "ChequeDeskModel", name := "fits", desc := "()Z" } : Jvm.MethodName)) ∈ lw_all := lw_g (lw_at lw_m5 101 rfl) rfl
theorem q1091 : (Jvm.Cond.code ({ cls := "ChequeDeskModel", name := "fits", desc := "()Z" } : Jvm.MethodName) prog_10_method_17_code (1 : Nat) (Option.some Jvm.ClassFile.FieldType.boolean)) ∈ lw_all := lw_g (lw_at lw_m5 102 rfl) rfl
theorem q1092 : (Jvm.Cond.methodLink "ChequeDeskModel" (126 : Nat) ({ cls := "ChequeDeskModel", name := "digits", desc := "(II)I" } : Jvm.MethodName)) ∈ lw_all := lw_g (lw_at lw_m5 103 rfl) rfl
theorem q1093 : (Jvm.Cond.privateMethod ({ cls := "ChequeDeskModel", name := "digits", desc := "(II)I" } : Jvm.MethodName)) ∈ lw_tbl := lw_at lw_m5 104 rfl
theorem q1094 : (Jvm.Cond.instanceMethod ({ cls := "ChequeDeskModel", name := "digits", desc := "(II)I" } : Jvm.MethodName)) ∈ lw_all := lw_g (lw_at lw_m5 105 rfl) rfl
theorem q1095 : (Jvm.Cond.code ({ cls := "ChequeDeskModel", name := "digits", desc := "(II)I" } : Jvm.MethodName) prog_10_method_16_code (5 : Nat) (Option.some Jvm.ClassFile.FieldType.int)) ∈ lw_all := lw_g (lw_at lw_m5 106 rfl) rfl
theorem q1097 : (Jvm.Cond.instanceMethod ({ cls := "ChequeDeskModel", name := "place", desc := "(II)I" } : Jvm.MethodName)) ∈ lw_all := lw_g (lw_at lw_m5 108 rfl) rfl
theorem q1098 : (Jvm.Cond.selects "ChequeDeskModel" ({ cls := "ChequeDeskModel", name := "place", desc := "(II)I" } : Jvm.MethodName) ({ cls := "ChequeDeskModel", name := "place", desc := "(II)I" } : Jvm.MethodName)) ∈ lw_all := lw_g (lw_at lw_m5 109 rfl) rfl
theorem q1099 : (Jvm.Cond.code ({ cls := "ChequeDeskModel", name := "place", desc := "(II)I" } : Jvm.MethodName) prog_10_method_19_code (3 : Nat) (Option.some Jvm.ClassFile.FieldType.int)) ∈ lw_all := lw_g (lw_at lw_m5 110 rfl) rfl
theorem q1101 : (Jvm.Cond.instanceMethod ({ cls := "ChequeDeskModel", name := "field", desc := "(I)I" } : Jvm.MethodName)) ∈ lw_all := lw_g (lw_at lw_m5 112 rfl) rfl
theorem q1102 : (Jvm.Cond.selects "ChequeDeskModel" ({ cls := "ChequeDeskModel", name := "field", desc := "(I)I" } : Jvm.MethodName) ({ cls := "ChequeDeskModel", name := "field", desc := "(I)I" } : Jvm.MethodName)) ∈ lw_all := lw_g (lw_at lw_m5 113 rfl) rfl
theorem q1103 : (Jvm.Cond.code ({ cls := "ChequeDeskModel", name := "field", desc := "(I)I" } : Jvm.MethodName) prog_10_method_21_code (2 : Nat) (Option.some Jvm.ClassFile.FieldType.int)) ∈ lw_all := lw_g (lw_at lw_m5 114 rfl) rfl
theorem q1104 : (Jvm.Cond.methodLink "ChequeDeskModel" (133 : Nat) ({ cls := "ChequeDeskModel", name := "fieldOf", desc := "(I)I" } : Jvm.MethodName)) ∈ lw_all := lw_g (lw_at lw_m5 115 rfl) rfl
theorem q1105 : (Jvm.Cond.privateMethod ({ cls := "ChequeDeskModel", name := "fieldOf", desc := "(I)I" } : Jvm.MethodName)) ∈ lw_tbl := lw_at lw_m5 116 rfl
theorem q1106 : (Jvm.Cond.instanceMethod ({ cls := "ChequeDeskModel", name := "fieldOf", desc := "(I)I" } : Jvm.MethodName)) ∈ lw_all := lw_g (lw_at lw_m5 117 rfl) rfl
theorem q1107 : (Jvm.Cond.code ({ cls := "ChequeDeskModel", name := "fieldOf", desc := "(I)I" } : Jvm.MethodName) prog_10_method_20_code (2 : Nat) (Option.some Jvm.ClassFile.FieldType.int)) ∈ lw_all := lw_g (lw_at lw_m5 118 rfl) rfl
theorem q1109 : (Jvm.Cond.instanceMethod ({ cls := "ChequeDeskModel", name := "others", desc := "()I" } : Jvm.MethodName)) ∈ lw_all := lw_g (lw_at lw_m5 120 rfl) rfl
theorem q1110 : (Jvm.Cond.selects "ChequeDeskModel" ({ cls := "ChequeDeskModel", name := "others", desc := "()I" } : Jvm.MethodName) ({ cls := "ChequeDeskModel", name := "others", desc := "()I" } : Jvm.MethodName)) ∈ lw_all := lw_g (lw_at lw_m5 121 rfl) rfl
theorem q1111 : (Jvm.Cond.code ({ cls := "ChequeDeskModel", name := "others", desc := "()I" } : Jvm.MethodName) prog_10_method_23_code (1 : Nat) (Option.some Jvm.ClassFile.FieldType.int)) ∈ lw_all := lw_g (lw_at lw_m5 122 rfl) rfl
theorem q1112 : (Jvm.Cond.methodLink "ChequeDeskModel" (142 : Nat) ({ cls := "ChequeDeskModel", name := "finds", desc := "(I)I" } : Jvm.MethodName)) ∈ lw_all := lw_g (lw_at lw_m5 123 rfl) rfl
theorem q1113 : (Jvm.Cond.privateMethod ({ cls := "ChequeDeskModel", name := "finds", desc := "(I)I" } : Jvm.MethodName)) ∈ lw_tbl := lw_at lw_m5 124 rfl
theorem q1114 : (Jvm.Cond.instanceMethod ({ cls := "ChequeDeskModel", name := "finds", desc := "(I)I" } : Jvm.MethodName)) ∈ lw_all := lw_g (lw_at lw_m5 125 rfl) rfl
theorem q1115 : (Jvm.Cond.code ({ cls := "ChequeDeskModel", name := "finds", desc := "(I)I" } : Jvm.MethodName) prog_10_method_22_code (7 : Nat) (Option.some Jvm.ClassFile.FieldType.int)) ∈ lw_all := lw_g (lw_at lw_m5 126 rfl) rfl
theorem q1117 : (Jvm.Cond.instanceMethod ({ cls := "ChequeDeskModel", name := "other", desc := "(II)I" } : Jvm.MethodName)) ∈ lw_all := lw_g (lw_at lw_m5 128 rfl) rfl
theorem q1118 : (Jvm.Cond.selects "ChequeDeskModel" ({ cls := "ChequeDeskModel", name := "other", desc := "(II)I" } : Jvm.MethodName) ({ cls := "ChequeDeskModel", name := "other", desc := "(II)I" } : Jvm.MethodName)) ∈ lw_all := lw_g (lw_at lw_m5 129 rfl) rfl
theorem q1119 : (Jvm.Cond.code ({ cls := "ChequeDeskModel", name := "other", desc := "(II)I" } : Jvm.MethodName) prog_10_method_25_code (3 : Nat) (Option.some Jvm.ClassFile.FieldType.int)) ∈ lw_all := lw_g (lw_at lw_m5 130 rfl) rfl
theorem q1120 : (Jvm.Cond.methodLink "ChequeDeskModel" (145 : Nat) ({ cls := "ChequeDeskModel", name := "costWith", desc := "(II)I" } : Jvm.MethodName)) ∈ lw_all := lw_g (lw_at lw_m5 131 rfl) rfl
theorem q1121 : (Jvm.Cond.privateMethod ({ cls := "ChequeDeskModel", name := "costWith", desc := "(II)I" } : Jvm.MethodName)) ∈ lw_tbl := lw_at lw_m5 132 rfl
theorem q1122 : (Jvm.Cond.instanceMethod ({ cls := "ChequeDeskModel", name := "costWith", desc := "(II)I" } : Jvm.MethodName)) ∈ lw_all := lw_g (lw_at lw_m5 133 rfl) rfl
theorem q1123 : (Jvm.Cond.code ({ cls := "ChequeDeskModel", name := "costWith", desc := "(II)I" } : Jvm.MethodName) prog_10_method_24_code (6 : Nat) (Option.some Jvm.ClassFile.FieldType.int)) ∈ lw_all := lw_g (lw_at lw_m5 134 rfl) rfl
theorem q1125 : (Jvm.Cond.instanceMethod ({ cls := "ChequeDeskModel", name := "choose", desc := "(I)I" } : Jvm.MethodName)) ∈ lw_all := lw_g (lw_at lw_m5 136 rfl) rfl
theorem q1126 : (Jvm.Cond.selects "ChequeDeskModel" ({ cls := "ChequeDeskModel", name := "choose", desc := "(I)I" } : Jvm.MethodName) ({ cls := "ChequeDeskModel", name := "choose", desc := "(I)I" } : Jvm.MethodName)) ∈ lw_all := lw_g (lw_at lw_m5 137 rfl) rfl
theorem q1127 : (Jvm.Cond.code ({ cls := "ChequeDeskModel", name := "choose", desc := "(I)I" } : Jvm.MethodName) prog_10_method_26_code (2 : Nat) (Option.some Jvm.ClassFile.FieldType.int)) ∈ lw_all := lw_g (lw_at lw_m5 138 rfl) rfl
theorem q1129 : (Jvm.Cond.instanceMethod ({ cls := "ChequeDeskModel", name := "batch", desc := "(I)I" } : Jvm.MethodName)) ∈ lw_all := lw_g (lw_at lw_m5 140 rfl) rfl
theorem q1130 : (Jvm.Cond.selects "ChequeDeskModel" ({ cls := "ChequeDeskModel", name := "batch", desc := "(I)I" } : Jvm.MethodName) ({ cls := "ChequeDeskModel", name := "batch", desc := "(I)I" } : Jvm.MethodName)) ∈ lw_all := lw_g (lw_at lw_m5 141 rfl) rfl
theorem q1131 : (Jvm.Cond.code ({ cls := "ChequeDeskModel", name := "batch", desc := "(I)I" } : Jvm.MethodName) prog_10_method_27_code (2 : Nat) (Option.some Jvm.ClassFile.FieldType.int)) ∈ lw_all := lw_g (lw_at lw_m5 142 rfl) rfl
theorem q1132 : (Jvm.Cond.constant "ChequeDeskModel" (148 : Nat) (1000000000 : Int32)) ∈ lw_all := lw_g (lw_at lw_m5 143 rfl) rfl
theorem q1134 : (Jvm.Cond.instanceMethod ({ cls := "ChequeDeskModel", name := "twin", desc := "()I" } : Jvm.MethodName)) ∈ lw_all := lw_g (lw_at lw_m5 145 rfl) rfl
theorem q1135 : (Jvm.Cond.selects "ChequeDeskModel" ({ cls := "ChequeDeskModel", name := "twin", desc := "()I" } : Jvm.MethodName) ({ cls := "ChequeDeskModel", name := "twin", desc := "()I" } : Jvm.MethodName)) ∈ lw_all := lw_g (lw_at lw_m5 146 rfl) rfl
theorem q1136 : (Jvm.Cond.code ({ cls := "ChequeDeskModel", name := "twin", desc := "()I" } : Jvm.MethodName) prog_10_method_31_code (1 : Nat) (Option.some Jvm.ClassFile.FieldType.int)) ∈ lw_all := lw_g (lw_at lw_m5 147 rfl) rfl
theorem q1137 : (Jvm.Cond.methodLink "ChequeDeskModel" (157 : Nat) ({ cls := "ChequeDeskModel", name := "twinOf", desc := "()I" } : Jvm.MethodName)) ∈ lw_all := lw_g (lw_at lw_m5 148 rfl) rfl
theorem q1138 : (Jvm.Cond.privateMethod ({ cls := "ChequeDeskModel", name := "twinOf", desc := "()I" } : Jvm.MethodName)) ∈ lw_tbl := lw_at lw_m5 149 rfl
theorem q1139 : (Jvm.Cond.instanceMethod ({ cls := "ChequeDeskModel", name := "twinOf", desc := "()I" } : Jvm.MethodName)) ∈ lw_all := lw_g (lw_at lw_m5 150 rfl) rfl
theorem q1140 : (Jvm.Cond.code ({ cls := "ChequeDeskModel", name := "twinOf", desc := "()I" } : Jvm.MethodName) prog_10_method_30_code (2 : Nat) (Option.some Jvm.ClassFile.FieldType.int)) ∈ lw_all := lw_g (lw_at lw_m5 151 rfl) rfl
theorem q1142 : (Jvm.Cond.instanceMethod ({ cls := "ChequeDeskModel", name := "paper", desc := "(II)I" } : Jvm.MethodName)) ∈ lw_all := lw_g (lw_at lw_m5 153 rfl) rfl
theorem q1143 : (Jvm.Cond.selects "ChequeDeskModel" ({ cls := "ChequeDeskModel", name := "paper", desc := "(II)I" } : Jvm.MethodName) ({ cls := "ChequeDeskModel", name := "paper", desc := "(II)I" } : Jvm.MethodName)) ∈ lw_all := lw_g (lw_at lw_m5 154 rfl) rfl
theorem q1144 : (Jvm.Cond.code ({ cls := "ChequeDeskModel", name := "paper", desc := "(II)I" } : Jvm.MethodName) prog_10_method_32_code (3 : Nat) (Option.some Jvm.ClassFile.FieldType.int)) ∈ lw_all := lw_g (lw_at lw_m5 155 rfl) rfl
theorem q1145 : (Jvm.Cond.methodLink "ChequeDeskModel" (160 : Nat) ({ cls := "ChequeDeskModel", name := "isBatch", desc := "(I)Z" } : Jvm.MethodName)) ∈ lw_all := lw_g (lw_at lw_m5 156 rfl) rfl
theorem q1146 : (Jvm.Cond.privateMethod ({ cls := "ChequeDeskModel", name := "isBatch", desc := "(I)Z" } : Jvm.MethodName)) ∈ lw_tbl := lw_at lw_m5 157 rfl
theorem q1147 : (Jvm.Cond.instanceMethod ({ cls := "ChequeDeskModel", name := "isBatch", desc := "(I)Z" } : Jvm.MethodName)) ∈ lw_all := lw_g (lw_at lw_m5 158 rfl) rfl
theorem q1148 : (Jvm.Cond.code ({ cls := "ChequeDeskModel", name := "isBatch", desc := "(I)Z" } : Jvm.MethodName) prog_10_method_28_code (2 : Nat) (Option.some Jvm.ClassFile.FieldType.boolean)) ∈ lw_all := lw_g (lw_at lw_m5 159 rfl) rfl
theorem q1149 : (Jvm.Cond.methodLink "ChequeDeskModel" (164 : Nat) ({ cls := "ChequeDeskModel", name := "isAmount", desc := "(J)Z" } : Jvm.MethodName)) ∈ lw_all := lw_g (lw_at lw_m5 160 rfl) rfl
theorem q1150 : (Jvm.Cond.static ({ cls := "ChequeDeskModel", name := "isAmount", desc := "(J)Z" } : Jvm.MethodName)) ∈ lw_all := lw_g (lw_at lw_m5 161 rfl) rfl
theorem q1151 : (Jvm.Cond.code ({ cls := "ChequeDeskModel", name := "isAmount", desc := "(J)Z" } : Jvm.MethodName) prog_10_method_29_code (2 : Nat) (Option.some Jvm.ClassFile.FieldType.boolean)) ∈ lw_all := lw_g (lw_at lw_m5 162 rfl) rfl
theorem q1152 : (Jvm.Cond.constantLong "ChequeDeskModel" (152 : Nat) (9999999 : Int64)) ∈ lw_all := lw_g (lw_at lw_m5 163 rfl) rfl
theorem q1154 : (Jvm.Cond.instanceMethod ({ cls := "ChequeDeskModel", name := "amount", desc := "(II)I" } : Jvm.MethodName)) ∈ lw_all := lw_g (lw_at lw_m5 165 rfl) rfl
theorem q1155 : (Jvm.Cond.selects "ChequeDeskModel" ({ cls := "ChequeDeskModel", name := "amount", desc := "(II)I" } : Jvm.MethodName) ({ cls := "ChequeDeskModel", name := "amount", desc := "(II)I" } : Jvm.MethodName)) ∈ lw_all := lw_g (lw_at lw_m5 166 rfl) rfl
theorem q1156 : (Jvm.Cond.code ({ cls := "ChequeDeskModel", name := "amount", desc := "(II)I" } : Jvm.MethodName) prog_10_method_33_code (4 : Nat) (Option.some Jvm.ClassFile.FieldType.int)) ∈ lw_all := lw_g (lw_at lw_m5 167 rfl) rfl
theorem q1158 : (Jvm.Cond.instanceMethod ({ cls := "ChequeDeskModel", name := "out", desc := "(I)J" } : Jvm.MethodName)) ∈ lw_all := lw_g (lw_at lw_m5 169 rfl) rfl
theorem q1159 : (Jvm.Cond.selects "ChequeDeskModel" ({ cls := "ChequeDeskModel", name := "out", desc := "(I)J" } : Jvm.MethodName) ({ cls := "ChequeDeskModel", name := "out", desc := "(I)J" } : Jvm.MethodName)) ∈ lw_all := lw_g (lw_at lw_m5 170 rfl) rfl
theorem q1160 : (Jvm.Cond.code ({ cls := "ChequeDeskModel", name := "out", desc := "(I)J" } : Jvm.MethodName) prog_10_method_35_code (2 : Nat) (Option.some Jvm.ClassFile.FieldType.long)) ∈ lw_all := lw_g (lw_at lw_m5 171 rfl) rfl
theorem q1161 : (Jvm.Cond.methodLink "ChequeDeskModel" (168 : Nat) ({ cls := "ChequeDeskModel", name := "outOf", desc := "(I)J" } : Jvm.MethodName)) ∈ lw_all := lw_g (lw_at lw_m5 172 rfl) rfl
theorem q1162 : (Jvm.Cond.privateMethod ({ cls := "ChequeDeskModel", name := "outOf", desc := "(I)J" } : Jvm.MethodName)) ∈ lw_tbl := lw_at lw_m5 173 rfl
theorem q1163 : (Jvm.Cond.instanceMethod ({ cls := "ChequeDeskModel", name := "outOf", desc := "(I)J" } : Jvm.MethodName)) ∈ lw_all := lw_g (lw_at lw_m5 174 rfl) rfl
theorem q1164 : (Jvm.Cond.code ({ cls := "ChequeDeskModel", name := "outOf", desc := "(I)J" } : Jvm.MethodName) prog_10_method_34_code (5 : Nat) (Option.some Jvm.ClassFile.FieldType.long)) ∈ lw_all := lw_g (lw_at lw_m5 175 rfl) rfl
theorem q1166 : (Jvm.Cond.instanceMethod ({ cls := "ChequeDeskModel", name := "slips", desc := "(I)I" } : Jvm.MethodName)) ∈ lw_all := lw_g (lw_at lw_m5 177 rfl) rfl
theorem q1167 : (Jvm.Cond.selects "ChequeDeskModel" ({ cls := "ChequeDeskModel", name := "slips", desc := "(I)I" } : Jvm.MethodName) ({ cls := "ChequeDeskModel", name := "slips", desc := "(I)I" } : Jvm.MethodName)) ∈ lw_all := lw_g (lw_at lw_m5 178 rfl) rfl
theorem q1168 : (Jvm.Cond.code ({ cls := "ChequeDeskModel", name := "slips", desc := "(I)I" } : Jvm.MethodName) prog_10_method_38_code (2 : Nat) (Option.some Jvm.ClassFile.FieldType.int)) ∈ lw_all := lw_g (lw_at lw_m5 179 rfl) rfl
theorem q1169 : (Jvm.Cond.constant "ChequeDeskModel" (185 : Nat) (100000 : Int32)) ∈ lw_all := lw_g (lw_at lw_m5 180 rfl) rfl
theorem q1170 : (Jvm.Cond.methodLink "ChequeDeskModel" (186 : Nat) ({ cls := "ChequeDeskModel", name := "looks", desc := "(II)I" } : Jvm.MethodName)) ∈ lw_all := lw_g (lw_at lw_m5 181 rfl) rfl
theorem q1171 : (Jvm.Cond.privateMethod ({ cls := "ChequeDeskModel", name := "looks", desc := "(II)I" } : Jvm.MethodName)) ∈ lw_tbl := lw_at lw_m5 182 rfl
theorem q1172 : (Jvm.Cond.instanceMethod ({ cls := "ChequeDeskModel", name := "looks", desc := "(II)I" } : Jvm.MethodName)) ∈ lw_all := lw_g (lw_at lw_m5 183 rfl) rfl
theorem q1173 : (Jvm.Cond.code ({ cls := "ChequeDeskModel", name := "looks", desc := "(II)I" } : Jvm.MethodName) prog_10_method_37_code (11 : Nat) (Option.some Jvm.ClassFile.FieldType.int)) ∈ lw_all := lw_g (lw_at lw_m5 184 rfl) rfl
theorem q1174 : (Jvm.Cond.methodLink "ChequeDeskModel" (172 : Nat) ({ cls := "ChequeDeskModel", name := "isSlip", desc := "(III)Z" } : Jvm.MethodName)) ∈ lw_all := lw_g (lw_at lw_m5 185 rfl) rfl
theorem q1175 : (Jvm.Cond.static ({ cls := "ChequeDeskModel", name := "isSlip", desc := "(III)Z" } : Jvm.MethodName)) ∈ lw_all := lw_g (lw_at lw_m5 186 rfl) rfl
theorem q1176 : (Jvm.Cond.code ({ cls := "ChequeDeskModel", name := "isSlip", desc := "(III)Z" } : Jvm.MethodName) prog_10_method_36_code (9 : Nat) (Option.some Jvm.ClassFile.FieldType.boolean)) ∈ lw_all := lw_g (lw_at lw_m5 187 rfl) rfl
theorem q1178 : (Jvm.Cond.instanceMethod ({ cls := "ChequeDeskModel", name := "slip", desc := "(III)I" } : Jvm.MethodName)) ∈ lw_all := lw_g (lw_at lw_m5 189 rfl) rfl
theorem q1179 : (Jvm.Cond.selects "ChequeDeskModel" ({ cls := "ChequeDeskModel", name := "slip", desc := "(III)I" } : Jvm.MethodName) ({ cls := "ChequeDeskModel", name := "slip", desc := "(III)I" } : Jvm.MethodName)) ∈ lw_all := lw_g (lw_at lw_m5 190 rfl) rfl
theorem q1180 : (Jvm.Cond.code ({ cls := "ChequeDeskModel", name := "slip", desc := "(III)I" } : Jvm.MethodName) prog_10_method_39_code (4 : Nat) (Option.some Jvm.ClassFile.FieldType.int)) ∈ lw_all := lw_g (lw_at lw_m5 191 rfl) rfl
theorem q1182 : (Jvm.Cond.instanceMethod ({ cls := "ChequeDeskModel", name := "count", desc := "(I)I" } : Jvm.MethodName)) ∈ lw_all := lw_g (lw_at lw_m5 193 rfl) rfl
theorem q1183 : (Jvm.Cond.selects "ChequeDeskModel" ({ cls := "ChequeDeskModel", name := "count", desc := "(I)I" } : Jvm.MethodName) ({ cls := "ChequeDeskModel", name := "count", desc := "(I)I" } : Jvm.MethodName)) ∈ lw_all := lw_g (lw_at lw_m5 194 rfl) rfl
theorem q1184 : (Jvm.Cond.code ({ cls := "ChequeDeskModel", name := "count", desc := "(I)I" } : Jvm.MethodName) prog_10_method_40_code (4 : Nat) (Option.some Jvm.ClassFile.FieldType.int)) ∈ lw_all := lw_g (lw_at lw_m5 195 rfl) rfl
theorem q1204 : (Jvm.Cond.castable "ChequeDeskModel" "java/lang/Object") ∈ lw_tbl := lw_at lw_m5 215 rfl
theorem in_X2 : ∀ w ∈ wsX20, w ∈ lw_all := lw_in wsX20 [964, 966, 968, 970, 972, 974, 976, 978, 980, 982, 984, 986, 988, 990, 992, 994, 996, 998, 1000, 1002, 1004, 1006, 1008, 1010, 1012, 1014, 1016, 1018, 1020, 1022, 1024] (by decide +kernel) (by decide +kernel)
theorem q51 : (Jvm.Cond.initialized "ChequeDesk$Reading") ∈ lw_all := lw_g (lw_at lw_m1 22 rfl) rfl
theorem q453 : (Jvm.Cond.instantiable "ChequeDesk$Reading" (6 : Nat)) ∈ lw_all := lw_g (lw_at lw_m2 184 rfl) rfl
theorem q455 : (Jvm.Cond.instanceMethod ({ cls := "ChequeDesk$Reading", name := "<init>", desc := "(I)V" } : Jvm.MethodName)) ∈ lw_all := lw_g (lw_at lw_m2 186 rfl) rfl
theorem q456 : (Jvm.Cond.code ({ cls := "ChequeDesk$Reading", name := "<init>", desc := "(I)V" } : Jvm.MethodName) prog_6_method_1_code (2 : Nat) (Option.none : Option Jvm.ClassFile.FieldType)) ∈ lw_all := lw_g (lw_at lw_m2 187 rfl) rfl
theorem q457 : (Jvm.Cond.methodLink "ChequeDesk$Reading" (3 : Nat) ({ cls := "java/lang/Object", name := "<init>", desc := "()V" } : Jvm.MethodName)) ∈ lw_all := lw_g (lw_at lw_m2 188 rfl) rfl
theorem q458 : (Jvm.Cond.fieldLink "ChequeDesk$Reading" (9 : Nat) "ChequeDesk$Reading" "places" "I") ∈ lw_all := lw_g (lw_at lw_m2 189 rfl) rfl
theorem q460 : (Jvm.Cond.fieldLink "ChequeDesk$Reading" (15 : Nat) "ChequeDesk$Reading" "signs" "[B") ∈ lw_all := lw_g (lw_at lw_m2 191 rfl) rfl
theorem q462 : (Jvm.Cond.fieldLink "ChequeDesk$Reading" (19 : Nat) "ChequeDesk$Reading" "speeds" "[B") ∈ lw_all := lw_g (lw_at lw_m2 193 rfl) rfl
theorem q467 : (Jvm.Cond.laysFinal "ChequeDesk$Reading" "ChequeDesk$Reading" "places" "I") ∈ lw_all := lw_g (lw_at lw_m2 198 rfl) rfl
theorem q468 : (Jvm.Cond.soleField "ChequeDesk$Reading" "places") ∈ lw_all := lw_g (lw_at lw_m2 199 rfl) rfl
theorem q469 : (Jvm.Cond.laysFinal "ChequeDesk$Reading" "ChequeDesk$Reading" "signs" "[B") ∈ lw_all := lw_g (lw_at lw_m2 200 rfl) rfl
theorem q470 : (Jvm.Cond.soleField "ChequeDesk$Reading" "signs") ∈ lw_all := lw_g (lw_at lw_m2 201 rfl) rfl
theorem q471 : (Jvm.Cond.laysFinal "ChequeDesk$Reading" "ChequeDesk$Reading" "speeds" "[B") ∈ lw_all := lw_g (lw_at lw_m2 202 rfl) rfl
theorem q472 : (Jvm.Cond.soleField "ChequeDesk$Reading" "speeds") ∈ lw_all := lw_g (lw_at lw_m2 203 rfl) rfl
theorem q473 : (Jvm.Cond.lays "ChequeDesk$Reading" "ChequeDesk$Reading" "cost" "I") ∈ lw_all := lw_g (lw_at lw_m2 204 rfl) rfl
theorem q474 : (Jvm.Cond.soleField "ChequeDesk$Reading" "cost") ∈ lw_all := lw_g (lw_at lw_m2 205 rfl) rfl
theorem q475 : (Jvm.Cond.lays "ChequeDesk$Reading" "ChequeDesk$Reading" "gap" "I") ∈ lw_all := lw_g (lw_at lw_m2 206 rfl) rfl
theorem q476 : (Jvm.Cond.soleField "ChequeDesk$Reading" "gap") ∈ lw_all := lw_g (lw_at lw_m2 207 rfl) rfl
theorem q477 : (Jvm.Cond.lays "ChequeDesk$Reading" "ChequeDesk$Reading" "isTurned" "Z") ∈ lw_all := lw_g (lw_at lw_m2 208 rfl) rfl
theorem q478 : (Jvm.Cond.soleField "ChequeDesk$Reading" "isTurned") ∈ lw_all := lw_g (lw_at lw_m2 209 rfl) rfl
theorem q479 : (Jvm.Cond.superclass "ChequeDesk$Reading" "java/lang/Object") ∈ lw_all := lw_g (lw_at lw_m2 210 rfl) rfl
theorem q523 : (Jvm.Cond.static ({ cls := "ChequeDesk$Reading", name := "fits", desc := "([B)Z" } : Jvm.MethodName)) ∈ lw_all := lw_g (lw_at lw_m3 14 rfl) rfl
theorem q524 : (Jvm.Cond.code ({ cls := "ChequeDesk$Reading", name := "fits", desc := "([B)Z" } : Jvm.MethodName) prog_6_method_3_code (5 : Nat) (Option.some Jvm.ClassFile.FieldType.boolean)) ∈ lw_all := lw_g (lw_at lw_m3 15 rfl) rfl
theorem q574 : (Jvm.Cond.selects "ChequeDesk$Reading" ({ cls := "java/lang/Object", name := "getClass", desc := "()Ljava/lang/Class;" } : Jvm.MethodName) ({ cls := "java/lang/Object", name := "getClass", desc := "()Ljava/lang/Class;" } : Jvm.MethodName)) ∈ lw_all := lw_g (lw_at lw_m3 65 rfl) rfl
theorem q625 : (Jvm.Cond.instanceMethod ({ cls := "ChequeDesk$Reading", name := "fits", desc := "()Z" } : Jvm.MethodName)) ∈ lw_all := lw_g (lw_at lw_m3 116 rfl) rfl
theorem q626 : (Jvm.Cond.selects "ChequeDesk$Reading" ({ cls := "ChequeDesk$Reading", name := "fits", desc := "()Z" } : Jvm.MethodName) ({ cls := "ChequeDesk$Reading", name := "fits", desc := "()Z" } : Jvm.MethodName)) ∈ lw_all := lw_g (lw_at lw_m3 117 rfl) rfl
theorem q627 : (Jvm.Cond.code ({ cls := "ChequeDesk$Reading", name := "fits", desc := "()Z" } : Jvm.MethodName) prog_6_method_2_code (1 : Nat) (Option.some Jvm.ClassFile.FieldType.boolean)) ∈ lw_all := lw_g (lw_at lw_m3 118 rfl) rfl
theorem q628 : (Jvm.Cond.methodLink "ChequeDesk$Reading" (22 : Nat) ({ cls := "ChequeDesk$Reading", name := "fits", desc := "([B)Z" } : Jvm.MethodName)) ∈ lw_all := lw_g (lw_at lw_m3 119 rfl) rfl
theorem q635 : (Jvm.Cond.instanceMethod ({ cls := "ChequeDesk$Reading", name := "field", desc := "(I)I" } : Jvm.MethodName)) ∈ lw_all := lw_g (lw_at lw_m3 126 rfl) rfl
theorem q636 : (Jvm.Cond.selects "ChequeDesk$Reading" ({ cls := "ChequeDesk$Reading", name := "field", desc := "(I)I" } : Jvm.MethodName) ({ cls := "ChequeDesk$Reading", name := "field", desc := "(I)I" } : Jvm.MethodName)) ∈ lw_all := lw_g (lw_at lw_m3 127 rfl) rfl
theorem q637 : (Jvm.Cond.code ({ cls := "ChequeDesk$Reading", name := "field", desc := "(I)I" } : Jvm.MethodName) prog_6_method_5_code (2 : Nat) (Option.some Jvm.ClassFile.FieldType.int)) ∈ lw_all := lw_g (lw_at lw_m3 128 rfl) rfl
theorem q638 : (Jvm.Cond.methodLink "ChequeDesk$Reading" (26 : Nat) ({ cls := "ChequeDesk$Reading", name := "number", desc := "(II)I" } : Jvm.MethodName)) ∈ lw_all := lw_g (lw_at lw_m3 129 rfl) rfl
theorem q639 : (Jvm.Cond.instanceMethod ({ cls := "ChequeDesk$Reading", name := "number", desc := "(II)I" } : Jvm.MethodName)) ∈ lw_all := lw_g (lw_at lw_m3 130 rfl) rfl
theorem q640 : (Jvm.Cond.selects "ChequeDesk$Reading" ({ cls := "ChequeDesk$Reading", name := "number", desc := "(II)I" } : Jvm.MethodName) ({ cls := "ChequeDesk$Reading", name := "number", desc := "(II)I" } : Jvm.MethodName)) ∈ lw_all := lw_g (lw_at lw_m3 131 rfl) rfl
theorem q641 : (Jvm.Cond.code ({ cls := "ChequeDesk$Reading", name := "number", desc := "(II)I" } : Jvm.MethodName) prog_6_method_4_code (5 : Nat) (Option.some Jvm.ClassFile.FieldType.int)) ∈ lw_all := lw_g (lw_at lw_m3 132 rfl) rfl
theorem q1205 : (Jvm.Cond.castable "ChequeDesk$Reading" "java/lang/Object") ∈ lw_tbl := lw_at lw_m5 216 rfl
theorem in_X3 : ∀ w ∈ wsX30, w ∈ lw_all := lw_in wsX30 [467, 469, 471, 473, 475, 477] (by decide +kernel) (by decide +kernel)
theorem q59 : (Jvm.Cond.initialized "ChequeDesk$Slip") ∈ lw_all := lw_g (lw_at lw_m1 30 rfl) rfl
theorem q575 : (Jvm.Cond.selects "ChequeDesk$Slip" ({ cls := "java/lang/Object", name := "getClass", desc := "()Ljava/lang/Class;" } : Jvm.MethodName) ({ cls := "java/lang/Object", name := "getClass", desc := "()Ljava/lang/Class;" } : Jvm.MethodName)) ∈ lw_all := lw_g (lw_at lw_m3 66 rfl) rfl
theorem q862 : (Jvm.Cond.instantiable "ChequeDesk$Slip" (2 : Nat)) ∈ lw_all := lw_g (lw_at lw_m4 113 rfl) rfl
theorem q864 : (Jvm.Cond.instanceMethod ({ cls := "ChequeDesk$Slip", name := "<init>", desc := "(LChequeDesk$Paper;I)V" } : Jvm.MethodName)) ∈ lw_all := lw_g (lw_at lw_m4 115 rfl) rfl
theorem q865 : (Jvm.Cond.code ({ cls := "ChequeDesk$Slip", name := "<init>", desc := "(LChequeDesk$Paper;I)V" } : Jvm.MethodName) prog_7_method_1_code (3 : Nat) (Option.none : Option Jvm.ClassFile.FieldType)) ∈ lw_all := lw_g (lw_at lw_m4 116 rfl) rfl
theorem q866 : (Jvm.Cond.methodLink "ChequeDesk$Slip" (1 : Nat) ({ cls := "java/lang/Object", name := "<init>", desc := "()V" } : Jvm.MethodName)) ∈ lw_all := lw_g (lw_at lw_m4 117 rfl) rfl
theorem q867 : (Jvm.Cond.fieldLink "ChequeDesk$Slip" (7 : Nat) "ChequeDesk$Slip" "paper" "LChequeDesk$Paper;") ∈ lw_all := lw_g (lw_at lw_m4 118 rfl) rfl
theorem q869 : (Jvm.Cond.fieldLink "ChequeDesk$Slip" (13 : Nat) "ChequeDesk$Slip" "due" "I") ∈ lw_all := lw_g (lw_at lw_m4 120 rfl) rfl
theorem q871 : (Jvm.Cond.laysFinal "ChequeDesk$Slip" "ChequeDesk$Slip" "paper" "LChequeDesk$Paper;") ∈ lw_all := lw_g (lw_at lw_m4 122 rfl) rfl
theorem q872 : (Jvm.Cond.soleField "ChequeDesk$Slip" "paper") ∈ lw_all := lw_g (lw_at lw_m4 123 rfl) rfl
theorem q873 : (Jvm.Cond.laysFinal "ChequeDesk$Slip" "ChequeDesk$Slip" "due" "I") ∈ lw_all := lw_g (lw_at lw_m4 124 rfl) rfl
theorem q874 : (Jvm.Cond.soleField "ChequeDesk$Slip" "due") ∈ lw_all := lw_g (lw_at lw_m4 125 rfl) rfl
theorem q875 : (Jvm.Cond.superclass "ChequeDesk$Slip" "java/lang/Object") ∈ lw_all := lw_g (lw_at lw_m4 126 rfl) rfl
theorem q914 : (Jvm.Cond.instanceMethod ({ cls := "ChequeDesk$Slip", name := "kind", desc := "()I" } : Jvm.MethodName)) ∈ lw_all := lw_g (lw_at lw_m4 165 rfl) rfl
theorem q915 : (Jvm.Cond.selects "ChequeDesk$Slip" ({ cls := "ChequeDesk$Slip", name := "kind", desc := "()I" } : Jvm.MethodName) ({ cls := "ChequeDesk$Slip", name := "kind", desc := "()I" } : Jvm.MethodName)) ∈ lw_all := lw_g (lw_at lw_m4 166 rfl) rfl
theorem q916 : (Jvm.Cond.sameMethod "ChequeDesk$Slip" "ChequeDesk$Slip" "kind" "()I") ∈ lw_all := lw_g (lw_at lw_m4 167 rfl) rfl
theorem q926 : (Jvm.Cond.code ({ cls := "ChequeDesk$Slip", name := "kind", desc := "()I" } : Jvm.MethodName) prog_7_method_2_code (1 : Nat) (Option.some Jvm.ClassFile.FieldType.int)) ∈ lw_all := lw_g (lw_at lw_m4 177 rfl) rfl
theorem q1212 : (Jvm.Cond.castable "ChequeDesk$Slip" "java/lang/Object") ∈ lw_tbl := lw_at lw_m5 223 rfl
theorem in_X6 : ∀ w ∈ wsX60, w ∈ lw_all := lw_in wsX60 [871, 873] (by decide +kernel) (by decide +kernel)
theorem q60 : (Jvm.Cond.initialized "ChequeDesk$Swapped") ∈ lw_all := lw_g (lw_at lw_m1 31 rfl) rfl
theorem q576 : (Jvm.Cond.selects "ChequeDesk$Swapped" ({ cls := "java/lang/Object", name := "getClass", desc := "()Ljava/lang/Class;" } : Jvm.MethodName) ({ cls := "java/lang/Object", name := "getClass", desc := "()Ljava/lang/Class;" } : Jvm.MethodName)) ∈ lw_all := lw_g (lw_at lw_m3 67 rfl) rfl
theorem q880 : (Jvm.Cond.instantiable "ChequeDesk$Swapped" (2 : Nat)) ∈ lw_all := lw_g (lw_at lw_m4 131 rfl) rfl
theorem q882 : (Jvm.Cond.instanceMethod ({ cls := "ChequeDesk$Swapped", name := "<init>", desc := "(LChequeDesk$Paper;I)V" } : Jvm.MethodName)) ∈ lw_all := lw_g (lw_at lw_m4 133 rfl) rfl
theorem q883 : (Jvm.Cond.code ({ cls := "ChequeDesk$Swapped", name := "<init>", desc := "(LChequeDesk$Paper;I)V" } : Jvm.MethodName) prog_8_method_1_code (3 : Nat) (Option.none : Option Jvm.ClassFile.FieldType)) ∈ lw_all := lw_g (lw_at lw_m4 134 rfl) rfl
theorem q884 : (Jvm.Cond.methodLink "ChequeDesk$Swapped" (1 : Nat) ({ cls := "ChequeDesk$Slip", name := "<init>", desc := "(LChequeDesk$Paper;I)V" } : Jvm.MethodName)) ∈ lw_all := lw_g (lw_at lw_m4 135 rfl) rfl
theorem q885 : (Jvm.Cond.laysFinal "ChequeDesk$Swapped" "ChequeDesk$Slip" "paper" "LChequeDesk$Paper;") ∈ lw_all := lw_g (lw_at lw_m4 136 rfl) rfl
theorem q886 : (Jvm.Cond.laysFinal "ChequeDesk$Swapped" "ChequeDesk$Slip" "due" "I") ∈ lw_all := lw_g (lw_at lw_m4 137 rfl) rfl
theorem q887 : (Jvm.Cond.superclass "ChequeDesk$Swapped" "ChequeDesk$Slip") ∈ lw_all := lw_g (lw_at lw_m4 138 rfl) rfl
theorem q923 : (Jvm.Cond.selects "ChequeDesk$Swapped" ({ cls := "ChequeDesk$Slip", name := "kind", desc := "()I" } : Jvm.MethodName) ({ cls := "ChequeDesk$Swapped", name := "kind", desc := "()I" } : Jvm.MethodName)) ∈ lw_all := lw_g (lw_at lw_m4 174 rfl) rfl
theorem q924 : (Jvm.Cond.instanceMethod ({ cls := "ChequeDesk$Swapped", name := "kind", desc := "()I" } : Jvm.MethodName)) ∈ lw_all := lw_g (lw_at lw_m4 175 rfl) rfl
theorem q925 : (Jvm.Cond.code ({ cls := "ChequeDesk$Swapped", name := "kind", desc := "()I" } : Jvm.MethodName) prog_8_method_2_code (1 : Nat) (Option.some Jvm.ClassFile.FieldType.int)) ∈ lw_all := lw_g (lw_at lw_m4 176 rfl) rfl
theorem q1198 : (Jvm.Cond.castable "ChequeDesk$Swapped" "ChequeDesk$Slip") ∈ lw_tbl := lw_at lw_m5 209 rfl
theorem q1213 : (Jvm.Cond.castable "ChequeDesk$Swapped" "java/lang/Object") ∈ lw_tbl := lw_at lw_m5 224 rfl
theorem in_X7 : ∀ w ∈ wsX70, w ∈ lw_all := lw_in wsX70 [885, 886] (by decide +kernel) (by decide +kernel)
theorem q62 : (Jvm.Cond.initialized "ChequeDesk$Lacking") ∈ lw_all := lw_g (lw_at lw_m1 33 rfl) rfl
theorem q571 : (Jvm.Cond.selects "ChequeDesk$Lacking" ({ cls := "java/lang/Object", name := "getClass", desc := "()Ljava/lang/Class;" } : Jvm.MethodName) ({ cls := "java/lang/Object", name := "getClass", desc := "()Ljava/lang/Class;" } : Jvm.MethodName)) ∈ lw_all := lw_g (lw_at lw_m3 62 rfl) rfl
theorem q898 : (Jvm.Cond.instantiable "ChequeDesk$Lacking" (2 : Nat)) ∈ lw_all := lw_g (lw_at lw_m4 149 rfl) rfl
theorem q900 : (Jvm.Cond.instanceMethod ({ cls := "ChequeDesk$Lacking", name := "<init>", desc := "(I)V" } : Jvm.MethodName)) ∈ lw_all := lw_g (lw_at lw_m4 151 rfl) rfl
theorem q901 : (Jvm.Cond.code ({ cls := "ChequeDesk$Lacking", name := "<init>", desc := "(I)V" } : Jvm.MethodName) prog_3_method_1_code (2 : Nat) (Option.none : Option Jvm.ClassFile.FieldType)) ∈ lw_all := lw_g (lw_at lw_m4 152 rfl) rfl
theorem q902 : (Jvm.Cond.methodLink "ChequeDesk$Lacking" (1 : Nat) ({ cls := "ChequeDesk$Swapped", name := "<init>", desc := "(LChequeDesk$Paper;I)V" } : Jvm.MethodName)) ∈ lw_all := lw_g (lw_at lw_m4 153 rfl) rfl
theorem q903 : (Jvm.Cond.laysFinal "ChequeDesk$Lacking" "ChequeDesk$Slip" "paper" "LChequeDesk$Paper;") ∈ lw_all := lw_g (lw_at lw_m4 154 rfl) rfl
theorem q904 : (Jvm.Cond.laysFinal "ChequeDesk$Lacking" "ChequeDesk$Slip" "due" "I") ∈ lw_all := lw_g (lw_at lw_m4 155 rfl) rfl
theorem q905 : (Jvm.Cond.superclass "ChequeDesk$Lacking" "ChequeDesk$Swapped") ∈ lw_all := lw_g (lw_at lw_m4 156 rfl) rfl
theorem q920 : (Jvm.Cond.selects "ChequeDesk$Lacking" ({ cls := "ChequeDesk$Slip", name := "kind", desc := "()I" } : Jvm.MethodName) ({ cls := "ChequeDesk$Lacking", name := "kind", desc := "()I" } : Jvm.MethodName)) ∈ lw_all := lw_g (lw_at lw_m4 171 rfl) rfl
theorem q921 : (Jvm.Cond.instanceMethod ({ cls := "ChequeDesk$Lacking", name := "kind", desc := "()I" } : Jvm.MethodName)) ∈ lw_all := lw_g (lw_at lw_m4 172 rfl) rfl
theorem q922 : (Jvm.Cond.code ({ cls := "ChequeDesk$Lacking", name := "kind", desc := "()I" } : Jvm.MethodName) prog_3_method_2_code (1 : Nat) (Option.some Jvm.ClassFile.FieldType.int)) ∈ lw_all := lw_g (lw_at lw_m4 173 rfl) rfl
theorem q1197 : (Jvm.Cond.castable "ChequeDesk$Lacking" "ChequeDesk$Slip") ∈ lw_tbl := lw_at lw_m5 208 rfl
theorem q1215 : (Jvm.Cond.castable "ChequeDesk$Lacking" "java/lang/Object") ∈ lw_tbl := lw_at lw_m5 226 rfl
theorem in_X9 : ∀ w ∈ wsX90, w ∈ lw_all := lw_in wsX90 [903, 904] (by decide +kernel) (by decide +kernel)
theorem q31 : (Jvm.Cond.initialized "java/util/AbstractCollection") ∈ lw_all := lw_g (lw_at lw_m1 2 rfl) rfl
theorem q80 : (Jvm.Cond.instanceMethod ({ cls := "java/util/AbstractCollection", name := "<init>", desc := "()V" } : Jvm.MethodName)) ∈ lw_all := lw_g (lw_at lw_m1 51 rfl) rfl
theorem q81 : (Jvm.Cond.code ({ cls := "java/util/AbstractCollection", name := "<init>", desc := "()V" } : Jvm.MethodName) prog_31_method_1_code (1 : Nat) (Option.none : Option Jvm.ClassFile.FieldType)) ∈ lw_all := lw_g (lw_at lw_m1 52 rfl) rfl
theorem q82 : (Jvm.Cond.methodLink "java/util/AbstractCollection" (1 : Nat) ({ cls := "java/lang/Object", name := "<init>", desc := "()V" } : Jvm.MethodName)) ∈ lw_all := lw_g (lw_at lw_m1 53 rfl) rfl
theorem q32 : (Jvm.Cond.initialized "java/util/AbstractList") ∈ lw_all := lw_g (lw_at lw_m1 3 rfl) rfl
theorem q77 : (Jvm.Cond.instanceMethod ({ cls := "java/util/AbstractList", name := "<init>", desc := "()V" } : Jvm.MethodName)) ∈ lw_all := lw_g (lw_at lw_m1 48 rfl) rfl
theorem q78 : (Jvm.Cond.code ({ cls := "java/util/AbstractList", name := "<init>", desc := "()V" } : Jvm.MethodName) prog_32_method_1_code (1 : Nat) (Option.none : Option Jvm.ClassFile.FieldType)) ∈ lw_all := lw_g (lw_at lw_m1 49 rfl) rfl
theorem q79 : (Jvm.Cond.methodLink "java/util/AbstractList" (1 : Nat) ({ cls := "java/util/AbstractCollection", name := "<init>", desc := "()V" } : Jvm.MethodName)) ∈ lw_all := lw_g (lw_at lw_m1 50 rfl) rfl
theorem q404 : (Jvm.Cond.fieldLink "java/util/AbstractList" (7 : Nat) "java/util/AbstractList" "modCount" "I") ∈ lw_all := lw_g (lw_at lw_m2 135 rfl) rfl
theorem q412 : (Jvm.Cond.soleField "java/util/AbstractList" "modCount") ∈ lw_all := lw_g (lw_at lw_m2 143 rfl) rfl
theorem q33 : (Jvm.Cond.initialized "java/util/ArrayList") ∈ lw_all := lw_g (lw_at lw_m1 4 rfl) rfl
theorem q72 : (Jvm.Cond.instantiable "java/util/ArrayList" (3 : Nat)) ∈ lw_all := lw_g (lw_at lw_m1 43 rfl) rfl
theorem q74 : (Jvm.Cond.instanceMethod ({ cls := "java/util/ArrayList", name := "<init>", desc := "(I)V" } : Jvm.MethodName)) ∈ lw_all := lw_g (lw_at lw_m1 45 rfl) rfl
theorem q75 : (Jvm.Cond.code ({ cls := "java/util/ArrayList", name := "<init>", desc := "(I)V" } : Jvm.MethodName) prog_33_method_1_code (2 : Nat) (Option.none : Option Jvm.ClassFile.FieldType)) ∈ lw_all := lw_g (lw_at lw_m1 46 rfl) rfl
theorem q76 : (Jvm.Cond.methodLink "java/util/ArrayList" (1 : Nat) ({ cls := "java/util/AbstractList", name := "<init>", desc := "()V" } : Jvm.MethodName)) ∈ lw_all := lw_g (lw_at lw_m1 47 rfl) rfl
theorem q83 : (Jvm.Cond.classLink "java/util/ArrayList" (7 : Nat) "java/lang/Object") ∈ lw_all := lw_g (lw_at lw_m1 54 rfl) rfl
theorem q85 : (Jvm.Cond.fieldLink "java/util/ArrayList" (15 : Nat) "java/util/ArrayList" "EMPTY_ELEMENTDATA" "[Ljava/lang/Object;") ∈ lw_all := lw_g (lw_at lw_m1 56 rfl) rfl
theorem q86 : (Jvm.Cond.laysStatic "java/util/ArrayList" "EMPTY_ELEMENTDATA" "[Ljava/lang/Object;") ∈ lw_tbl := lw_at lw_m1 57 rfl
theorem q87 : (Jvm.Cond.classLink "java/util/ArrayList" (18 : Nat) "java/lang/IllegalArgumentException") ∈ lw_all := lw_g (lw_at lw_m1 58 rfl) rfl
theorem q129 : (Jvm.Cond.classLink "java/util/ArrayList" (20 : Nat) "java/lang/StringBuilder") ∈ lw_all := lw_g (lw_at lw_m1 100 rfl) rfl
theorem q131 : (Jvm.Cond.methodLink "java/util/ArrayList" (22 : Nat) ({ cls := "java/lang/StringBuilder", name := "<init>", desc := "()V" } : Jvm.MethodName)) ∈ lw_all := lw_g (lw_at lw_m1 102 rfl) rfl
theorem q163 : (Jvm.Cond.stringRef "java/util/ArrayList" (23 : Nat) "Illegal Capacity: ") ∈ lw_tbl := lw_at lw_m1 134 rfl
theorem q164 : (Jvm.Cond.methodLink "java/util/ArrayList" (25 : Nat) ({ cls := "java/lang/StringBuilder", name := "append", desc := "(Ljava/lang/String;)Ljava/lang/StringBuilder;" } : Jvm.MethodName)) ∈ lw_all := lw_g (lw_at lw_m1 135 rfl) rfl
theorem q284 : (Jvm.Cond.methodLink "java/util/ArrayList" (29 : Nat) ({ cls := "java/lang/StringBuilder", name := "append", desc := "(I)Ljava/lang/StringBuilder;" } : Jvm.MethodName)) ∈ lw_all := lw_g (lw_at lw_m2 15 rfl) rfl
theorem q309 : (Jvm.Cond.methodLink "java/util/ArrayList" (32 : Nat) ({ cls := "java/lang/StringBuilder", name := "toString", desc := "()Ljava/lang/String;" } : Jvm.MethodName)) ∈ lw_all := lw_g (lw_at lw_m2 40 rfl) rfl
theorem q401 : (Jvm.Cond.methodLink "java/util/ArrayList" (36 : Nat) ({ cls := "java/lang/IllegalArgumentException", name := "<init>", desc := "(Ljava/lang/String;)V" } : Jvm.MethodName)) ∈ lw_all := lw_g (lw_at lw_m2 132 rfl) rfl
theorem q402 : (Jvm.Cond.fieldLink "java/util/ArrayList" (9 : Nat) "java/util/ArrayList" "elementData" "[Ljava/lang/Object;") ∈ lw_all := lw_g (lw_at lw_m2 133 rfl) rfl
theorem q403 : (Jvm.Cond.fieldLink "java/util/ArrayList" (48 : Nat) "java/util/ArrayList" "size" "I") ∈ lw_all := lw_g (lw_at lw_m2 134 rfl) rfl
theorem q405 : (Jvm.Cond.fieldLink "java/util/ArrayList" (63 : Nat) "java/util/ArrayList" "modCount" "I") ∈ lw_all := lw_g (lw_at lw_m2 136 rfl) rfl
theorem q406 : (Jvm.Cond.sameField "java/util/ArrayList" "java/util/AbstractList" "modCount" "I") ∈ lw_all := lw_g (lw_at lw_m2 137 rfl) rfl
theorem q407 : (Jvm.Cond.lays "java/util/ArrayList" "java/util/ArrayList" "elementData" "[Ljava/lang/Object;") ∈ lw_all := lw_g (lw_at lw_m2 138 rfl) rfl
theorem q408 : (Jvm.Cond.soleField "java/util/ArrayList" "elementData") ∈ lw_all := lw_g (lw_at lw_m2 139 rfl) rfl
theorem q409 : (Jvm.Cond.lays "java/util/ArrayList" "java/util/ArrayList" "size" "I") ∈ lw_all := lw_g (lw_at lw_m2 140 rfl) rfl
theorem q410 : (Jvm.Cond.soleField "java/util/ArrayList" "size") ∈ lw_all := lw_g (lw_at lw_m2 141 rfl) rfl
theorem q411 : (Jvm.Cond.lays "java/util/ArrayList" "java/util/AbstractList" "modCount" "I") ∈ lw_all := lw_g (lw_at lw_m2 142 rfl) rfl
theorem q413 : (Jvm.Cond.superclass "java/util/ArrayList" "java/util/AbstractList") ∈ lw_all := lw_g (lw_at lw_m2 144 rfl) rfl
theorem q518 : (Jvm.Cond.instanceMethod ({ cls := "java/util/ArrayList", name := "clear", desc := "()V" } : Jvm.MethodName)) ∈ lw_all := lw_g (lw_at lw_m3 9 rfl) rfl
theorem q519 : (Jvm.Cond.selects "java/util/ArrayList" ({ cls := "java/util/ArrayList", name := "clear", desc := "()V" } : Jvm.MethodName) ({ cls := "java/util/ArrayList", name := "clear", desc := "()V" } : Jvm.MethodName)) ∈ lw_all := lw_g (lw_at lw_m3 10 rfl) rfl
theorem q520 : (Jvm.Cond.code ({ cls := "java/util/ArrayList", name := "clear", desc := "()V" } : Jvm.MethodName) prog_33_method_40_code (4 : Nat) (Option.none : Option Jvm.ClassFile.FieldType)) ∈ lw_all := lw_g (lw_at lw_m3 11 rfl) rfl
theorem q545 : (Jvm.Cond.instanceMethod ({ cls := "java/util/ArrayList", name := "add", desc := "(Ljava/lang/Object;)Z" } : Jvm.MethodName)) ∈ lw_all := lw_g (lw_at lw_m3 36 rfl) rfl
theorem q546 : (Jvm.Cond.selects "java/util/ArrayList" ({ cls := "java/util/ArrayList", name := "add", desc := "(Ljava/lang/Object;)Z" } : Jvm.MethodName) ({ cls := "java/util/ArrayList", name := "add", desc := "(Ljava/lang/Object;)Z" } : Jvm.MethodName)) ∈ lw_all := lw_g (lw_at lw_m3 37 rfl) rfl
theorem q547 : (Jvm.Cond.code ({ cls := "java/util/ArrayList", name := "add", desc := "(Ljava/lang/Object;)Z" } : Jvm.MethodName) prog_33_method_25_code (2 : Nat) (Option.some Jvm.ClassFile.FieldType.boolean)) ∈ lw_all := lw_g (lw_at lw_m3 38 rfl) rfl
theorem q548 : (Jvm.Cond.methodLink "java/util/ArrayList" (131 : Nat) ({ cls := "java/util/ArrayList", name := "add", desc := "(Ljava/lang/Object;[Ljava/lang/Object;I)V" } : Jvm.MethodName)) ∈ lw_all := lw_g (lw_at lw_m3 39 rfl) rfl
theorem q549 : (Jvm.Cond.privateMethod ({ cls := "java/util/ArrayList", name := "add", desc := "(Ljava/lang/Object;[Ljava/lang/Object;I)V" } : Jvm.MethodName)) ∈ lw_tbl := lw_at lw_m3 40 rfl
theorem q550 : (Jvm.Cond.instanceMethod ({ cls := "java/util/ArrayList", name := "add", desc := "(Ljava/lang/Object;[Ljava/lang/Object;I)V" } : Jvm.MethodName)) ∈ lw_all := lw_g (lw_at lw_m3 41 rfl) rfl
theorem q551 : (Jvm.Cond.code ({ cls := "java/util/ArrayList", name := "add", desc := "(Ljava/lang/Object;[Ljava/lang/Object;I)V" } : Jvm.MethodName) prog_33_method_24_code (4 : Nat) (Option.none : Option Jvm.ClassFile.FieldType)) ∈ lw_all := lw_g (lw_at lw_m3 42 rfl) rfl
theorem q552 : (Jvm.Cond.methodLink "java/util/ArrayList" (129 : Nat) ({ cls := "java/util/ArrayList", name := "grow", desc := "()[Ljava/lang/Object;" } : Jvm.MethodName)) ∈ lw_all := lw_g (lw_at lw_m3 43 rfl) rfl
theorem q553 : (Jvm.Cond.privateMethod ({ cls := "java/util/ArrayList", name := "grow", desc := "()[Ljava/lang/Object;" } : Jvm.MethodName)) ∈ lw_tbl := lw_at lw_m3 44 rfl
theorem q554 : (Jvm.Cond.instanceMethod ({ cls := "java/util/ArrayList", name := "grow", desc := "()[Ljava/lang/Object;" } : Jvm.MethodName)) ∈ lw_all := lw_g (lw_at lw_m3 45 rfl) rfl
theorem q555 : (Jvm.Cond.code ({ cls := "java/util/ArrayList", name := "grow", desc := "()[Ljava/lang/Object;" } : Jvm.MethodName) prog_33_method_7_code (1 : Nat) (Option.some (Jvm.ClassFile.FieldType.array (Jvm.ClassFile.FieldType.object "java/lang/Object")))) ∈ lw_all := lw_g (lw_at lw_m3 46 rfl) rfl
theorem q556 : (Jvm.Cond.methodLink "java/util/ArrayList" (69 : Nat) ({ cls := "java/util/ArrayList", name := "grow", desc := "(I)[Ljava/lang/Object;" } : Jvm.MethodName)) ∈ lw_all := lw_g (lw_at lw_m3 47 rfl) rfl
theorem q557 : (Jvm.Cond.privateMethod ({ cls := "java/util/ArrayList", name := "grow", desc := "(I)[Ljava/lang/Object;" } : Jvm.MethodName)) ∈ lw_tbl := lw_at lw_m3 48 rfl
theorem q558 : (Jvm.Cond.instanceMethod ({ cls := "java/util/ArrayList", name := "grow", desc := "(I)[Ljava/lang/Object;" } : Jvm.MethodName)) ∈ lw_all := lw_g (lw_at lw_m3 49 rfl) rfl
theorem q559 : (Jvm.Cond.code ({ cls := "java/util/ArrayList", name := "grow", desc := "(I)[Ljava/lang/Object;" } : Jvm.MethodName) prog_33_method_6_code (4 : Nat) (Option.some (Jvm.ClassFile.FieldType.array (Jvm.ClassFile.FieldType.object "java/lang/Object")))) ∈ lw_all := lw_g (lw_at lw_m3 50 rfl) rfl
theorem q560 : (Jvm.Cond.fieldLink "java/util/ArrayList" (39 : Nat) "java/util/ArrayList" "DEFAULTCAPACITY_EMPTY_ELEMENTDATA" "[Ljava/lang/Object;") ∈ lw_all := lw_g (lw_at lw_m3 51 rfl) rfl
theorem q561 : (Jvm.Cond.laysStatic "java/util/ArrayList" "DEFAULTCAPACITY_EMPTY_ELEMENTDATA" "[Ljava/lang/Object;") ∈ lw_tbl := lw_at lw_m3 52 rfl
theorem q562 : (Jvm.Cond.methodLink "java/util/ArrayList" (73 : Nat) ({ cls := "jdk/internal/util/ArraysSupport", name := "newLength", desc := "(III)I" } : Jvm.MethodName)) ∈ lw_all := lw_g (lw_at lw_m3 53 rfl) rfl
theorem q563 : (Jvm.Cond.methodLink "java/util/ArrayList" (66 : Nat) ({ cls := "java/util/Arrays", name := "copyOf", desc := "([Ljava/lang/Object;I)[Ljava/lang/Object;" } : Jvm.MethodName)) ∈ lw_all := lw_g (lw_at lw_m3 54 rfl) rfl
theorem q585 : (Jvm.Cond.selects "java/util/ArrayList" ({ cls := "java/lang/Object", name := "getClass", desc := "()Ljava/lang/Class;" } : Jvm.MethodName) ({ cls := "java/lang/Object", name := "getClass", desc := "()Ljava/lang/Class;" } : Jvm.MethodName)) ∈ lw_all := lw_g (lw_at lw_m3 76 rfl) rfl
theorem q592 : (Jvm.Cond.methodLink "java/util/ArrayList" (79 : Nat) ({ cls := "java/lang/Math", name := "max", desc := "(II)I" } : Jvm.MethodName)) ∈ lw_all := lw_g (lw_at lw_m3 83 rfl) rfl
theorem q598 : (Jvm.Cond.instanceMethod ({ cls := "java/util/ArrayList", name := "size", desc := "()I" } : Jvm.MethodName)) ∈ lw_all := lw_g (lw_at lw_m3 89 rfl) rfl
theorem q599 : (Jvm.Cond.selects "java/util/ArrayList" ({ cls := "java/util/ArrayList", name := "size", desc := "()I" } : Jvm.MethodName) ({ cls := "java/util/ArrayList", name := "size", desc := "()I" } : Jvm.MethodName)) ∈ lw_all := lw_g (lw_at lw_m3 90 rfl) rfl
theorem q600 : (Jvm.Cond.code ({ cls := "java/util/ArrayList", name := "size", desc := "()I" } : Jvm.MethodName) prog_33_method_8_code (1 : Nat) (Option.some Jvm.ClassFile.FieldType.int)) ∈ lw_all := lw_g (lw_at lw_m3 91 rfl) rfl
theorem q607 : (Jvm.Cond.instanceMethod ({ cls := "java/util/ArrayList", name := "get", desc := "(I)Ljava/lang/Object;" } : Jvm.MethodName)) ∈ lw_all := lw_g (lw_at lw_m3 98 rfl) rfl
theorem q608 : (Jvm.Cond.selects "java/util/ArrayList" ({ cls := "java/util/ArrayList", name := "get", desc := "(I)Ljava/lang/Object;" } : Jvm.MethodName) ({ cls := "java/util/ArrayList", name := "get", desc := "(I)Ljava/lang/Object;" } : Jvm.MethodName)) ∈ lw_all := lw_g (lw_at lw_m3 99 rfl) rfl
theorem q609 : (Jvm.Cond.code ({ cls := "java/util/ArrayList", name := "get", desc := "(I)Ljava/lang/Object;" } : Jvm.MethodName) prog_33_method_20_code (2 : Nat) (Option.some (Jvm.ClassFile.FieldType.object "java/lang/Object"))) ∈ lw_all := lw_g (lw_at lw_m3 100 rfl) rfl
theorem q610 : (Jvm.Cond.methodLink "java/util/ArrayList" (118 : Nat) ({ cls := "java/util/Objects", name := "checkIndex", desc := "(II)I" } : Jvm.MethodName)) ∈ lw_all := lw_g (lw_at lw_m3 101 rfl) rfl
theorem q616 : (Jvm.Cond.methodLink "java/util/ArrayList" (123 : Nat) ({ cls := "java/util/ArrayList", name := "elementData", desc := "(I)Ljava/lang/Object;" } : Jvm.MethodName)) ∈ lw_all := lw_g (lw_at lw_m3 107 rfl) rfl
theorem q617 : (Jvm.Cond.instanceMethod ({ cls := "java/util/ArrayList", name := "elementData", desc := "(I)Ljava/lang/Object;" } : Jvm.MethodName)) ∈ lw_all := lw_g (lw_at lw_m3 108 rfl) rfl
theorem q618 : (Jvm.Cond.selects "java/util/ArrayList" ({ cls := "java/util/ArrayList", name := "elementData", desc := "(I)Ljava/lang/Object;" } : Jvm.MethodName) ({ cls := "java/util/ArrayList", name := "elementData", desc := "(I)Ljava/lang/Object;" } : Jvm.MethodName)) ∈ lw_all := lw_g (lw_at lw_m3 109 rfl) rfl
theorem q619 : (Jvm.Cond.code ({ cls := "java/util/ArrayList", name := "elementData", desc := "(I)Ljava/lang/Object;" } : Jvm.MethodName) prog_33_method_18_code (2 : Nat) (Option.some (Jvm.ClassFile.FieldType.object "java/lang/Object"))) ∈ lw_all := lw_g (lw_at lw_m3 110 rfl) rfl
theorem q1200 : (Jvm.Cond.castable "java/util/ArrayList" "java/lang/Object") ∈ lw_tbl := lw_at lw_m5 211 rfl
theorem in_J2 : ∀ w ∈ wsJ20, w ∈ lw_all := lw_in wsJ20 [411, 407, 409] (by decide +kernel) (by decide +kernel)
theorem q42 : (Jvm.Cond.initialized "jdk/internal/util/ArraysSupport") ∈ lw_all := lw_g (lw_at lw_m1 13 rfl) rfl
theorem q184 : (Jvm.Cond.static ({ cls := "jdk/internal/util/ArraysSupport", name := "newLength", desc := "(III)I" } : Jvm.MethodName)) ∈ lw_all := lw_g (lw_at lw_m1 155 rfl) rfl
theorem q185 : (Jvm.Cond.code ({ cls := "jdk/internal/util/ArraysSupport", name := "newLength", desc := "(III)I" } : Jvm.MethodName) prog_40_method_27_code (4 : Nat) (Option.some Jvm.ClassFile.FieldType.int)) ∈ lw_all := lw_g (lw_at lw_m1 156 rfl) rfl
theorem q186 : (Jvm.Cond.methodLink "jdk/internal/util/ArraysSupport" (194 : Nat) ({ cls := "java/lang/Math", name := "max", desc := "(II)I" } : Jvm.MethodName)) ∈ lw_all := lw_g (lw_at lw_m1 157 rfl) rfl
theorem q189 : (Jvm.Cond.constant "jdk/internal/util/ArraysSupport" (200 : Nat) (2147483639 : Int32)) ∈ lw_all := lw_g (lw_at lw_m1 160 rfl) rfl
theorem q190 : (Jvm.Cond.methodLink "jdk/internal/util/ArraysSupport" (201 : Nat) ({ cls := "jdk/internal/util/ArraysSupport", name := "hugeLength", desc := "(II)I" } : Jvm.MethodName)) ∈ lw_all := lw_g (lw_at lw_m1 161 rfl) rfl
theorem q191 : (Jvm.Cond.static ({ cls := "jdk/internal/util/ArraysSupport", name := "hugeLength", desc := "(II)I" } : Jvm.MethodName)) ∈ lw_all := lw_g (lw_at lw_m1 162 rfl) rfl
theorem q192 : (Jvm.Cond.code ({ cls := "jdk/internal/util/ArraysSupport", name := "hugeLength", desc := "(II)I" } : Jvm.MethodName) prog_40_method_28_code (3 : Nat) (Option.some Jvm.ClassFile.FieldType.int)) ∈ lw_all := lw_g (lw_at lw_m1 163 rfl) rfl
theorem q43 : (Jvm.Cond.initialized "java/lang/Math") ∈ lw_all := lw_g (lw_at lw_m1 14 rfl) rfl
theorem q187 : (Jvm.Cond.static ({ cls := "java/lang/Math", name := "max", desc := "(II)I" } : Jvm.MethodName)) ∈ lw_all := lw_g (lw_at lw_m1 158 rfl) rfl
theorem q188 : (Jvm.Cond.code ({ cls := "java/lang/Math", name := "max", desc := "(II)I" } : Jvm.MethodName) prog_22_method_65_code (2 : Nat) (Option.some Jvm.ClassFile.FieldType.int)) ∈ lw_all := lw_g (lw_at lw_m1 159 rfl) rfl
theorem q205 : (Jvm.Cond.static ({ cls := "java/lang/Math", name := "min", desc := "(II)I" } : Jvm.MethodName)) ∈ lw_all := lw_g (lw_at lw_m1 176 rfl) rfl
theorem q206 : (Jvm.Cond.code ({ cls := "java/lang/Math", name := "min", desc := "(II)I" } : Jvm.MethodName) prog_22_method_69_code (2 : Nat) (Option.some Jvm.ClassFile.FieldType.int)) ∈ lw_all := lw_g (lw_at lw_m1 177 rfl) rfl
theorem q489 : (Jvm.Cond.static ({ cls := "java/lang/Math", name := "abs", desc := "(I)I" } : Jvm.MethodName)) ∈ lw_all := lw_g (lw_at lw_m2 220 rfl) rfl
theorem q490 : (Jvm.Cond.code ({ cls := "java/lang/Math", name := "abs", desc := "(I)I" } : Jvm.MethodName) prog_22_method_59_code (1 : Nat) (Option.some Jvm.ClassFile.FieldType.int)) ∈ lw_all := lw_g (lw_at lw_m2 221 rfl) rfl
theorem q44 : (Jvm.Cond.initialized "java/util/Arrays") ∈ lw_all := lw_g (lw_at lw_m1 15 rfl) rfl
theorem q195 : (Jvm.Cond.static ({ cls := "java/util/Arrays", name := "copyOf", desc := "([BI)[B" } : Jvm.MethodName)) ∈ lw_all := lw_g (lw_at lw_m1 166 rfl) rfl
theorem q196 : (Jvm.Cond.code ({ cls := "java/util/Arrays", name := "copyOf", desc := "([BI)[B" } : Jvm.MethodName) prog_34_method_121_code (3 : Nat) (Option.some (Jvm.ClassFile.FieldType.array Jvm.ClassFile.FieldType.byte))) ∈ lw_all := lw_g (lw_at lw_m1 167 rfl) rfl
theorem q197 : (Jvm.Cond.methodLink "java/util/Arrays" (310 : Nat) ({ cls := "[B", name := "clone", desc := "()Ljava/lang/Object;" } : Jvm.MethodName)) ∈ lw_all := lw_g (lw_at lw_m1 168 rfl) rfl
theorem q203 : (Jvm.Cond.classLink "java/util/Arrays" (311 : Nat) "[B") ∈ lw_all := lw_g (lw_at lw_m1 174 rfl) rfl
theorem q204 : (Jvm.Cond.methodLink "java/util/Arrays" (304 : Nat) ({ cls := "java/lang/Math", name := "min", desc := "(II)I" } : Jvm.MethodName)) ∈ lw_all := lw_g (lw_at lw_m1 175 rfl) rfl
theorem q207 : (Jvm.Cond.methodLink "java/util/Arrays" (150 : Nat) ({ cls := "java/lang/System", name := "arraycopy", desc := "(Ljava/lang/Object;ILjava/lang/Object;II)V" } : Jvm.MethodName)) ∈ lw_all := lw_g (lw_at lw_m1 178 rfl) rfl
theorem q337 : (Jvm.Cond.static ({ cls := "java/util/Arrays", name := "copyOfRange", desc := "([BII)[B" } : Jvm.MethodName)) ∈ lw_all := lw_g (lw_at lw_m2 68 rfl) rfl
theorem q338 : (Jvm.Cond.code ({ cls := "java/util/Arrays", name := "copyOfRange", desc := "([BII)[B" } : Jvm.MethodName) prog_34_method_132_code (3 : Nat) (Option.some (Jvm.ClassFile.FieldType.array Jvm.ClassFile.FieldType.byte))) ∈ lw_all := lw_g (lw_at lw_m2 69 rfl) rfl
theorem q339 : (Jvm.Cond.methodLink "java/util/Arrays" (339 : Nat) ({ cls := "java/util/Arrays", name := "copyOfRangeByte", desc := "([BII)[B" } : Jvm.MethodName)) ∈ lw_all := lw_g (lw_at lw_m2 70 rfl) rfl
theorem q340 : (Jvm.Cond.static ({ cls := "java/util/Arrays", name := "copyOfRangeByte", desc := "([BII)[B" } : Jvm.MethodName)) ∈ lw_all := lw_g (lw_at lw_m2 71 rfl) rfl
theorem q341 : (Jvm.Cond.code ({ cls := "java/util/Arrays", name := "copyOfRangeByte", desc := "([BII)[B" } : Jvm.MethodName) prog_34_method_133_code (5 : Nat) (Option.some (Jvm.ClassFile.FieldType.array Jvm.ClassFile.FieldType.byte))) ∈ lw_all := lw_g (lw_at lw_m2 72 rfl) rfl
theorem q342 : (Jvm.Cond.methodLink "java/util/Arrays" (343 : Nat) ({ cls := "java/util/Arrays", name := "checkLength", desc := "(II)V" } : Jvm.MethodName)) ∈ lw_all := lw_g (lw_at lw_m2 73 rfl) rfl
theorem q343 : (Jvm.Cond.static ({ cls := "java/util/Arrays", name := "checkLength", desc := "(II)V" } : Jvm.MethodName)) ∈ lw_all := lw_g (lw_at lw_m2 74 rfl) rfl
theorem q344 : (Jvm.Cond.code ({ cls := "java/util/Arrays", name := "checkLength", desc := "(II)V" } : Jvm.MethodName) prog_34_method_131_code (2 : Nat) (Option.none : Option Jvm.ClassFile.FieldType)) ∈ lw_all := lw_g (lw_at lw_m2 75 rfl) rfl
theorem q345 : (Jvm.Cond.classLink "java/util/Arrays" (43 : Nat) "java/lang/IllegalArgumentException") ∈ lw_all := lw_g (lw_at lw_m2 76 rfl) rfl
theorem q346 : (Jvm.Cond.classLink "java/util/Arrays" (45 : Nat) "java/lang/StringBuilder") ∈ lw_all := lw_g (lw_at lw_m2 77 rfl) rfl
theorem q347 : (Jvm.Cond.methodLink "java/util/Arrays" (47 : Nat) ({ cls := "java/lang/StringBuilder", name := "<init>", desc := "()V" } : Jvm.MethodName)) ∈ lw_all := lw_g (lw_at lw_m2 78 rfl) rfl
theorem q348 : (Jvm.Cond.methodLink "java/util/Arrays" (54 : Nat) ({ cls := "java/lang/StringBuilder", name := "append", desc := "(I)Ljava/lang/StringBuilder;" } : Jvm.MethodName)) ∈ lw_all := lw_g (lw_at lw_m2 79 rfl) rfl
theorem q349 : (Jvm.Cond.stringRef "java/util/Arrays" (337 : Nat) " > ") ∈ lw_tbl := lw_at lw_m2 80 rfl
theorem q350 : (Jvm.Cond.methodLink "java/util/Arrays" (50 : Nat) ({ cls := "java/lang/StringBuilder", name := "append", desc := "(Ljava/lang/String;)Ljava/lang/StringBuilder;" } : Jvm.MethodName)) ∈ lw_all := lw_g (lw_at lw_m2 81 rfl) rfl
theorem q351 : (Jvm.Cond.methodLink "java/util/Arrays" (61 : Nat) ({ cls := "java/lang/StringBuilder", name := "toString", desc := "()Ljava/lang/String;" } : Jvm.MethodName)) ∈ lw_all := lw_g (lw_at lw_m2 82 rfl) rfl
theorem q352 : (Jvm.Cond.methodLink "java/util/Arrays" (65 : Nat) ({ cls := "java/lang/IllegalArgumentException", name := "<init>", desc := "(Ljava/lang/String;)V" } : Jvm.MethodName)) ∈ lw_all := lw_g (lw_at lw_m2 83 rfl) rfl
theorem q564 : (Jvm.Cond.static ({ cls := "java/util/Arrays", name := "copyOf", desc := "([Ljava/lang/Object;I)[Ljava/lang/Object;" } : Jvm.MethodName)) ∈ lw_all := lw_g (lw_at lw_m3 55 rfl) rfl
theorem q565 : (Jvm.Cond.code ({ cls := "java/util/Arrays", name := "copyOf", desc := "([Ljava/lang/Object;I)[Ljava/lang/Object;" } : Jvm.MethodName) prog_34_method_119_code (2 : Nat) (Option.some (Jvm.ClassFile.FieldType.array (Jvm.ClassFile.FieldType.object "java/lang/Object")))) ∈ lw_all := lw_g (lw_at lw_m3 56 rfl) rfl
theorem q566 : (Jvm.Cond.methodLink "java/util/Arrays" (86 : Nat) ({ cls := "java/lang/Object", name := "getClass", desc := "()Ljava/lang/Class;" } : Jvm.MethodName)) ∈ lw_all := lw_g (lw_at lw_m3 57 rfl) rfl
theorem q587 : (Jvm.Cond.methodLink "java/util/Arrays" (300 : Nat) ({ cls := "java/util/Arrays", name := "copyOf", desc := "([Ljava/lang/Object;ILjava/lang/Class;)[Ljava/lang/Object;" } : Jvm.MethodName)) ∈ lw_all := lw_g (lw_at lw_m3 78 rfl) rfl
theorem q588 : (Jvm.Cond.static ({ cls := "java/util/Arrays", name := "copyOf", desc := "([Ljava/lang/Object;ILjava/lang/Class;)[Ljava/lang/Object;" } : Jvm.MethodName)) ∈ lw_all := lw_g (lw_at lw_m3 79 rfl) rfl
theorem q589 : (Jvm.Cond.code ({ cls := "java/util/Arrays", name := "copyOf", desc := "([Ljava/lang/Object;ILjava/lang/Class;)[Ljava/lang/Object;" } : Jvm.MethodName) prog_34_method_120_code (4 : Nat) (Option.some (Jvm.ClassFile.FieldType.array (Jvm.ClassFile.FieldType.object "java/lang/Object")))) ∈ lw_all := lw_g (lw_at lw_m3 80 rfl) rfl
theorem q590 : (Jvm.Cond.classLink "java/util/Arrays" (110 : Nat) "[Ljava/lang/Object;") ∈ lw_all := lw_g (lw_at lw_m3 81 rfl) rfl
theorem q591 : (Jvm.Cond.classLink "java/util/Arrays" (2 : Nat) "java/lang/Object") ∈ lw_all := lw_g (lw_at lw_m3 82 rfl) rfl
theorem q46 : (Jvm.Cond.initialized "jdk/internal/util/Preconditions") ∈ lw_all := lw_g (lw_at lw_m1 17 rfl) rfl
theorem q228 : (Jvm.Cond.laysStatic "jdk/internal/util/Preconditions" "SIOOBE_FORMATTER" "Ljava/util/function/BiFunction;") ∈ lw_tbl := lw_at lw_m1 199 rfl
theorem q230 : (Jvm.Cond.static ({ cls := "jdk/internal/util/Preconditions", name := "checkFromToIndex", desc := "(IIILjava/util/function/BiFunction;)I" } : Jvm.MethodName)) ∈ lw_all := lw_g (lw_at lw_m1 201 rfl) rfl
theorem q231 : (Jvm.Cond.code ({ cls := "jdk/internal/util/Preconditions", name := "checkFromToIndex", desc := "(IIILjava/util/function/BiFunction;)I" } : Jvm.MethodName) prog_41_method_12_code (4 : Nat) (Option.some Jvm.ClassFile.FieldType.int)) ∈ lw_all := lw_g (lw_at lw_m1 202 rfl) rfl
theorem q276 : (Jvm.Cond.static ({ cls := "jdk/internal/util/Preconditions", name := "checkFromIndexSize", desc := "(IIILjava/util/function/BiFunction;)I" } : Jvm.MethodName)) ∈ lw_all := lw_g (lw_at lw_m2 7 rfl) rfl
theorem q277 : (Jvm.Cond.code ({ cls := "jdk/internal/util/Preconditions", name := "checkFromIndexSize", desc := "(IIILjava/util/function/BiFunction;)I" } : Jvm.MethodName) prog_41_method_13_code (4 : Nat) (Option.some Jvm.ClassFile.FieldType.int)) ∈ lw_all := lw_g (lw_at lw_m2 8 rfl) rfl
theorem q614 : (Jvm.Cond.static ({ cls := "jdk/internal/util/Preconditions", name := "checkIndex", desc := "(IILjava/util/function/BiFunction;)I" } : Jvm.MethodName)) ∈ lw_all := lw_g (lw_at lw_m3 105 rfl) rfl
theorem q615 : (Jvm.Cond.code ({ cls := "jdk/internal/util/Preconditions", name := "checkIndex", desc := "(IILjava/util/function/BiFunction;)I" } : Jvm.MethodName) prog_41_method_11_code (3 : Nat) (Option.some Jvm.ClassFile.FieldType.int)) ∈ lw_all := lw_g (lw_at lw_m3 106 rfl) rfl
theorem q48 : (Jvm.Cond.initialized "java/lang/Number") ∈ lw_all := lw_g (lw_at lw_m1 19 rfl) rfl
theorem q743 : (Jvm.Cond.instanceMethod ({ cls := "java/lang/Number", name := "<init>", desc := "()V" } : Jvm.MethodName)) ∈ lw_all := lw_g (lw_at lw_m3 234 rfl) rfl
theorem q744 : (Jvm.Cond.code ({ cls := "java/lang/Number", name := "<init>", desc := "()V" } : Jvm.MethodName) prog_23_method_1_code (1 : Nat) (Option.none : Option Jvm.ClassFile.FieldType)) ∈ lw_all := lw_g (lw_at lw_m3 235 rfl) rfl
theorem q745 : (Jvm.Cond.methodLink "java/lang/Number" (1 : Nat) ({ cls := "java/lang/Object", name := "<init>", desc := "()V" } : Jvm.MethodName)) ∈ lw_all := lw_g (lw_at lw_m3 236 rfl) rfl
theorem q49 : (Jvm.Cond.initialized "java/lang/Integer") ∈ lw_all := lw_g (lw_at lw_m1 20 rfl) rfl
theorem q292 : (Jvm.Cond.static ({ cls := "java/lang/Integer", name := "stringSize", desc := "(I)I" } : Jvm.MethodName)) ∈ lw_all := lw_g (lw_at lw_m2 23 rfl) rfl
theorem q293 : (Jvm.Cond.code ({ cls := "java/lang/Integer", name := "stringSize", desc := "(I)I" } : Jvm.MethodName) prog_19_method_13_code (4 : Nat) (Option.some Jvm.ClassFile.FieldType.int)) ∈ lw_all := lw_g (lw_at lw_m2 24 rfl) rfl
theorem q295 : (Jvm.Cond.static ({ cls := "java/lang/Integer", name := "getChars", desc := "(II[B)I" } : Jvm.MethodName)) ∈ lw_all := lw_g (lw_at lw_m2 26 rfl) rfl
theorem q296 : (Jvm.Cond.code ({ cls := "java/lang/Integer", name := "getChars", desc := "(II[B)I" } : Jvm.MethodName) prog_19_method_12_code (7 : Nat) (Option.some Jvm.ClassFile.FieldType.int)) ∈ lw_all := lw_g (lw_at lw_m2 27 rfl) rfl
theorem q297 : (Jvm.Cond.fieldLink "java/lang/Integer" (83 : Nat) "java/lang/Integer" "DigitOnes" "[B") ∈ lw_all := lw_g (lw_at lw_m2 28 rfl) rfl
theorem q298 : (Jvm.Cond.laysStatic "java/lang/Integer" "DigitOnes" "[B") ∈ lw_tbl := lw_at lw_m2 29 rfl
theorem q299 : (Jvm.Cond.fieldLink "java/lang/Integer" (87 : Nat) "java/lang/Integer" "DigitTens" "[B") ∈ lw_all := lw_g (lw_at lw_m2 30 rfl) rfl
theorem q300 : (Jvm.Cond.laysStatic "java/lang/Integer" "DigitTens" "[B") ∈ lw_tbl := lw_at lw_m2 31 rfl
theorem q582 : (Jvm.Cond.selects "java/lang/Integer" ({ cls := "java/lang/Object", name := "getClass", desc := "()Ljava/lang/Class;" } : Jvm.MethodName) ({ cls := "java/lang/Object", name := "getClass", desc := "()Ljava/lang/Class;" } : Jvm.MethodName)) ∈ lw_all := lw_g (lw_at lw_m3 73 rfl) rfl
theorem q731 : (Jvm.Cond.static ({ cls := "java/lang/Integer", name := "valueOf", desc := "(I)Ljava/lang/Integer;" } : Jvm.MethodName)) ∈ lw_all := lw_g (lw_at lw_m3 222 rfl) rfl
theorem q732 : (Jvm.Cond.code ({ cls := "java/lang/Integer", name := "valueOf", desc := "(I)Ljava/lang/Integer;" } : Jvm.MethodName) prog_19_method_22_code (1 : Nat) (Option.some (Jvm.ClassFile.FieldType.object "java/lang/Integer"))) ∈ lw_all := lw_g (lw_at lw_m3 223 rfl) rfl
theorem q733 : (Jvm.Cond.fieldLink "java/lang/Integer" (191 : Nat) "java/lang/Integer$IntegerCache" "high" "I") ∈ lw_all := lw_g (lw_at lw_m3 224 rfl) rfl
theorem q735 : (Jvm.Cond.fieldLink "java/lang/Integer" (195 : Nat) "java/lang/Integer$IntegerCache" "cache" "[Ljava/lang/Integer;") ∈ lw_all := lw_g (lw_at lw_m3 226 rfl) rfl
theorem q737 : (Jvm.Cond.classLink "java/lang/Integer" (1 : Nat) "java/lang/Integer") ∈ lw_all := lw_g (lw_at lw_m3 228 rfl) rfl
theorem q738 : (Jvm.Cond.instantiable "java/lang/Integer" (1 : Nat)) ∈ lw_all := lw_g (lw_at lw_m3 229 rfl) rfl
theorem q739 : (Jvm.Cond.methodLink "java/lang/Integer" (199 : Nat) ({ cls := "java/lang/Integer", name := "<init>", desc := "(I)V" } : Jvm.MethodName)) ∈ lw_all := lw_g (lw_at lw_m3 230 rfl) rfl
theorem q740 : (Jvm.Cond.instanceMethod ({ cls := "java/lang/Integer", name := "<init>", desc := "(I)V" } : Jvm.MethodName)) ∈ lw_all := lw_g (lw_at lw_m3 231 rfl) rfl
theorem q741 : (Jvm.Cond.code ({ cls := "java/lang/Integer", name := "<init>", desc := "(I)V" } : Jvm.MethodName) prog_19_method_23_code (2 : Nat) (Option.none : Option Jvm.ClassFile.FieldType)) ∈ lw_all := lw_g (lw_at lw_m3 232 rfl) rfl
theorem q742 : (Jvm.Cond.methodLink "java/lang/Integer" (202 : Nat) ({ cls := "java/lang/Number", name := "<init>", desc := "()V" } : Jvm.MethodName)) ∈ lw_all := lw_g (lw_at lw_m3 233 rfl) rfl
theorem q746 : (Jvm.Cond.fieldLink "java/lang/Integer" (205 : Nat) "java/lang/Integer" "value" "I") ∈ lw_all := lw_g (lw_at lw_m3 237 rfl) rfl
theorem q747 : (Jvm.Cond.laysFinal "java/lang/Integer" "java/lang/Integer" "value" "I") ∈ lw_all := lw_g (lw_at lw_m3 238 rfl) rfl
theorem q748 : (Jvm.Cond.soleField "java/lang/Integer" "value") ∈ lw_all := lw_g (lw_at lw_m3 239 rfl) rfl
theorem q749 : (Jvm.Cond.superclass "java/lang/Integer" "java/lang/Number") ∈ lw_all := lw_g (lw_at lw_m4 0 rfl) rfl
theorem q842 : (Jvm.Cond.instanceMethod ({ cls := "java/lang/Integer", name := "intValue", desc := "()I" } : Jvm.MethodName)) ∈ lw_all := lw_g (lw_at lw_m4 93 rfl) rfl
theorem q843 : (Jvm.Cond.selects "java/lang/Integer" ({ cls := "java/lang/Integer", name := "intValue", desc := "()I" } : Jvm.MethodName) ({ cls := "java/lang/Integer", name := "intValue", desc := "()I" } : Jvm.MethodName)) ∈ lw_all := lw_g (lw_at lw_m4 94 rfl) rfl
theorem q844 : (Jvm.Cond.code ({ cls := "java/lang/Integer", name := "intValue", desc := "()I" } : Jvm.MethodName) prog_19_method_27_code (1 : Nat) (Option.some Jvm.ClassFile.FieldType.int)) ∈ lw_all := lw_g (lw_at lw_m4 95 rfl) rfl
theorem q1208 : (Jvm.Cond.castable "java/lang/Integer" "java/lang/Object") ∈ lw_tbl := lw_at lw_m5 219 rfl
theorem in_J17 : ∀ w ∈ wsJ170, w ∈ lw_all := lw_in wsJ170 [747] (by decide +kernel) (by decide +kernel)
theorem q53 : (Jvm.Cond.initialized "java/util/Objects") ∈ lw_all := lw_g (lw_at lw_m1 24 rfl) rfl
theorem q611 : (Jvm.Cond.static ({ cls := "java/util/Objects", name := "checkIndex", desc := "(II)I" } : Jvm.MethodName)) ∈ lw_all := lw_g (lw_at lw_m3 102 rfl) rfl
theorem q612 : (Jvm.Cond.code ({ cls := "java/util/Objects", name := "checkIndex", desc := "(II)I" } : Jvm.MethodName) prog_37_method_17_code (2 : Nat) (Option.some Jvm.ClassFile.FieldType.int)) ∈ lw_all := lw_g (lw_at lw_m3 103 rfl) rfl
theorem q613 : (Jvm.Cond.methodLink "java/util/Objects" (105 : Nat) ({ cls := "jdk/internal/util/Preconditions", name := "checkIndex", desc := "(IILjava/util/function/BiFunction;)I" } : Jvm.MethodName)) ∈ lw_all := lw_g (lw_at lw_m3 104 rfl) rfl
theorem q69 : (Jvm.Cond.instanceMethod ({ cls := "java/lang/Object", name := "<init>", desc := "()V" } : Jvm.MethodName)) ∈ lw_all := lw_g (lw_at lw_m1 40 rfl) rfl
theorem q70 : (Jvm.Cond.code ({ cls := "java/lang/Object", name := "<init>", desc := "()V" } : Jvm.MethodName) object_method_1_code (1 : Nat) (Option.none : Option Jvm.ClassFile.FieldType)) ∈ lw_all := lw_g (lw_at lw_m1 41 rfl) rfl
theorem q199 : (Jvm.Cond.native ({ cls := "java/lang/Object", name := "clone", desc := "()Ljava/lang/Object;" } : Jvm.MethodName)) ∈ lw_all := lw_g (lw_at lw_m1 170 rfl) rfl
theorem q200 : (Jvm.Cond.instanceMethod ({ cls := "java/lang/Object", name := "clone", desc := "()Ljava/lang/Object;" } : Jvm.MethodName)) ∈ lw_all := lw_g (lw_at lw_m1 171 rfl) rfl
theorem q567 : (Jvm.Cond.instanceMethod ({ cls := "java/lang/Object", name := "getClass", desc := "()Ljava/lang/Class;" } : Jvm.MethodName)) ∈ lw_all := lw_g (lw_at lw_m3 58 rfl) rfl
theorem q568 : (Jvm.Cond.sameMethod "java/lang/Object" "java/lang/Object" "getClass" "()Ljava/lang/Class;") ∈ lw_all := lw_g (lw_at lw_m3 59 rfl) rfl
theorem q586 : (Jvm.Cond.native ({ cls := "java/lang/Object", name := "getClass", desc := "()Ljava/lang/Class;" } : Jvm.MethodName)) ∈ lw_all := lw_g (lw_at lw_m3 77 rfl) rfl
theorem q1219 : (Jvm.Cond.declares ({ cls := "java/lang/Object", name := "getClass", desc := "()Ljava/lang/Class;" } : Jvm.MethodName)) ∈ lw_tbl := lw_at lw_m5 230 rfl
theorem q37 : (Jvm.Cond.initialized "java/lang/IllegalArgumentException") ∈ lw_all := lw_g (lw_at lw_m1 8 rfl) rfl
theorem q88 : (Jvm.Cond.instantiable "java/lang/IllegalArgumentException" (6 : Nat)) ∈ lw_all := lw_g (lw_at lw_m1 59 rfl) rfl
theorem q89 : (Jvm.Cond.castable "java/lang/IllegalArgumentException" "java/lang/IllegalArgumentException") ∈ lw_tbl := lw_at lw_m1 60 rfl
theorem q96 : (Jvm.Cond.selects "java/lang/IllegalArgumentException" ({ cls := "java/lang/Throwable", name := "fillInStackTrace", desc := "(I)Ljava/lang/Throwable;" } : Jvm.MethodName) ({ cls := "java/lang/Throwable", name := "fillInStackTrace", desc := "(I)Ljava/lang/Throwable;" } : Jvm.MethodName)) ∈ lw_all := lw_g (lw_at lw_m1 67 rfl) rfl
theorem q97 : (Jvm.Cond.selects "java/lang/IllegalArgumentException" ({ cls := "java/lang/Throwable", name := "fillInStackTrace", desc := "()Ljava/lang/Throwable;" } : Jvm.MethodName) ({ cls := "java/lang/Throwable", name := "fillInStackTrace", desc := "()Ljava/lang/Throwable;" } : Jvm.MethodName)) ∈ lw_all := lw_g (lw_at lw_m1 68 rfl) rfl
theorem q98 : (Jvm.Cond.lays "java/lang/IllegalArgumentException" "java/lang/Throwable" "cause" "Ljava/lang/Throwable;") ∈ lw_all := lw_g (lw_at lw_m1 69 rfl) rfl
theorem q100 : (Jvm.Cond.lays "java/lang/IllegalArgumentException" "java/lang/Throwable" "stackTrace" "[Ljava/lang/StackTraceElement;") ∈ lw_all := lw_g (lw_at lw_m1 71 rfl) rfl
theorem q102 : (Jvm.Cond.lays "java/lang/IllegalArgumentException" "java/lang/Throwable" "suppressedExceptions" "Ljava/util/List;") ∈ lw_all := lw_g (lw_at lw_m1 73 rfl) rfl
theorem q104 : (Jvm.Cond.lays "java/lang/IllegalArgumentException" "java/lang/Throwable" "detailMessage" "Ljava/lang/String;") ∈ lw_all := lw_g (lw_at lw_m1 75 rfl) rfl
theorem q106 : (Jvm.Cond.lays "java/lang/IllegalArgumentException" "java/lang/Throwable" "backtrace" "Ljava/lang/Object;") ∈ lw_all := lw_g (lw_at lw_m1 77 rfl) rfl
theorem q353 : (Jvm.Cond.instanceMethod ({ cls := "java/lang/IllegalArgumentException", name := "<init>", desc := "(Ljava/lang/String;)V" } : Jvm.MethodName)) ∈ lw_all := lw_g (lw_at lw_m2 84 rfl) rfl
theorem q354 : (Jvm.Cond.code ({ cls := "java/lang/IllegalArgumentException", name := "<init>", desc := "(Ljava/lang/String;)V" } : Jvm.MethodName) prog_16_method_2_code (2 : Nat) (Option.none : Option Jvm.ClassFile.FieldType)) ∈ lw_all := lw_g (lw_at lw_m2 85 rfl) rfl
theorem q355 : (Jvm.Cond.methodLink "java/lang/IllegalArgumentException" (7 : Nat) ({ cls := "java/lang/RuntimeException", name := "<init>", desc := "(Ljava/lang/String;)V" } : Jvm.MethodName)) ∈ lw_all := lw_g (lw_at lw_m2 86 rfl) rfl
theorem q373 : (Jvm.Cond.lays "java/lang/IllegalArgumentException" "java/lang/Throwable" "depth" "I") ∈ lw_all := lw_g (lw_at lw_m2 104 rfl) rfl
theorem q376 : (Jvm.Cond.superclass "java/lang/IllegalArgumentException" "java/lang/RuntimeException") ∈ lw_all := lw_g (lw_at lw_m2 107 rfl) rfl
theorem q579 : (Jvm.Cond.selects "java/lang/IllegalArgumentException" ({ cls := "java/lang/Object", name := "getClass", desc := "()Ljava/lang/Class;" } : Jvm.MethodName) ({ cls := "java/lang/Object", name := "getClass", desc := "()Ljava/lang/Class;" } : Jvm.MethodName)) ∈ lw_all := lw_g (lw_at lw_m3 70 rfl) rfl
theorem q661 : (Jvm.Cond.instanceMethod ({ cls := "java/lang/IllegalArgumentException", name := "<init>", desc := "()V" } : Jvm.MethodName)) ∈ lw_all := lw_g (lw_at lw_m3 152 rfl) rfl
theorem q662 : (Jvm.Cond.code ({ cls := "java/lang/IllegalArgumentException", name := "<init>", desc := "()V" } : Jvm.MethodName) prog_16_method_1_code (1 : Nat) (Option.none : Option Jvm.ClassFile.FieldType)) ∈ lw_all := lw_g (lw_at lw_m3 153 rfl) rfl
theorem q663 : (Jvm.Cond.methodLink "java/lang/IllegalArgumentException" (1 : Nat) ({ cls := "java/lang/RuntimeException", name := "<init>", desc := "()V" } : Jvm.MethodName)) ∈ lw_all := lw_g (lw_at lw_m3 154 rfl) rfl
theorem q1201 : (Jvm.Cond.castable "java/lang/IllegalArgumentException" "java/lang/Object") ∈ lw_tbl := lw_at lw_m5 212 rfl
theorem in_J6 : ∀ w ∈ wsJ60, w ∈ lw_all := lw_in wsJ60 [98, 100, 102, 104, 106, 373] (by decide +kernel) (by decide +kernel)
theorem q54 : (Jvm.Cond.initialized "java/lang/IllegalStateException") ∈ lw_all := lw_g (lw_at lw_m1 25 rfl) rfl
theorem q121 : (Jvm.Cond.selects "java/lang/IllegalStateException" ({ cls := "java/lang/Throwable", name := "fillInStackTrace", desc := "()Ljava/lang/Throwable;" } : Jvm.MethodName) ({ cls := "java/lang/Throwable", name := "fillInStackTrace", desc := "()Ljava/lang/Throwable;" } : Jvm.MethodName)) ∈ lw_all := lw_g (lw_at lw_m1 92 rfl) rfl
theorem q580 : (Jvm.Cond.selects "java/lang/IllegalStateException" ({ cls := "java/lang/Object", name := "getClass", desc := "()Ljava/lang/Class;" } : Jvm.MethodName) ({ cls := "java/lang/Object", name := "getClass", desc := "()Ljava/lang/Class;" } : Jvm.MethodName)) ∈ lw_all := lw_g (lw_at lw_m3 71 rfl) rfl
theorem q716 : (Jvm.Cond.instantiable "java/lang/IllegalStateException" (6 : Nat)) ∈ lw_all := lw_g (lw_at lw_m3 207 rfl) rfl
theorem q717 : (Jvm.Cond.castable "java/lang/IllegalStateException" "java/lang/IllegalStateException") ∈ lw_tbl := lw_at lw_m3 208 rfl
theorem q718 : (Jvm.Cond.selects "java/lang/IllegalStateException" ({ cls := "java/lang/Throwable", name := "fillInStackTrace", desc := "(I)Ljava/lang/Throwable;" } : Jvm.MethodName) ({ cls := "java/lang/Throwable", name := "fillInStackTrace", desc := "(I)Ljava/lang/Throwable;" } : Jvm.MethodName)) ∈ lw_all := lw_g (lw_at lw_m3 209 rfl) rfl
theorem q719 : (Jvm.Cond.lays "java/lang/IllegalStateException" "java/lang/Throwable" "cause" "Ljava/lang/Throwable;") ∈ lw_all := lw_g (lw_at lw_m3 210 rfl) rfl
theorem q720 : (Jvm.Cond.lays "java/lang/IllegalStateException" "java/lang/Throwable" "stackTrace" "[Ljava/lang/StackTraceElement;") ∈ lw_all := lw_g (lw_at lw_m3 211 rfl) rfl
theorem q721 : (Jvm.Cond.lays "java/lang/IllegalStateException" "java/lang/Throwable" "suppressedExceptions" "Ljava/util/List;") ∈ lw_all := lw_g (lw_at lw_m3 212 rfl) rfl
theorem q722 : (Jvm.Cond.lays "java/lang/IllegalStateException" "java/lang/Throwable" "detailMessage" "Ljava/lang/String;") ∈ lw_all := lw_g (lw_at lw_m3 213 rfl) rfl
theorem q723 : (Jvm.Cond.lays "java/lang/IllegalStateException" "java/lang/Throwable" "backtrace" "Ljava/lang/Object;") ∈ lw_all := lw_g (lw_at lw_m3 214 rfl) rfl
theorem q725 : (Jvm.Cond.instanceMethod ({ cls := "java/lang/IllegalStateException", name := "<init>", desc := "()V" } : Jvm.MethodName)) ∈ lw_all := lw_g (lw_at lw_m3 216 rfl) rfl
theorem q726 : (Jvm.Cond.code ({ cls := "java/lang/IllegalStateException", name := "<init>", desc := "()V" } : Jvm.MethodName) prog_17_method_1_code (1 : Nat) (Option.none : Option Jvm.ClassFile.FieldType)) ∈ lw_all := lw_g (lw_at lw_m3 217 rfl) rfl
theorem q727 : (Jvm.Cond.methodLink "java/lang/IllegalStateException" (1 : Nat) ({ cls := "java/lang/RuntimeException", name := "<init>", desc := "()V" } : Jvm.MethodName)) ∈ lw_all := lw_g (lw_at lw_m3 218 rfl) rfl
theorem q728 : (Jvm.Cond.lays "java/lang/IllegalStateException" "java/lang/Throwable" "depth" "I") ∈ lw_all := lw_g (lw_at lw_m3 219 rfl) rfl
theorem q729 : (Jvm.Cond.superclass "java/lang/IllegalStateException" "java/lang/RuntimeException") ∈ lw_all := lw_g (lw_at lw_m3 220 rfl) rfl
theorem q1207 : (Jvm.Cond.castable "java/lang/IllegalStateException" "java/lang/Object") ∈ lw_tbl := lw_at lw_m5 218 rfl
theorem in_J19 : ∀ w ∈ wsJ190, w ∈ lw_all := lw_in wsJ190 [719, 720, 721, 722, 723, 728] (by decide +kernel) (by decide +kernel)
theorem q56 : (Jvm.Cond.initialized "java/lang/IndexOutOfBoundsException") ∈ lw_all := lw_g (lw_at lw_m1 27 rfl) rfl
theorem q122 : (Jvm.Cond.selects "java/lang/IndexOutOfBoundsException" ({ cls := "java/lang/Throwable", name := "fillInStackTrace", desc := "()Ljava/lang/Throwable;" } : Jvm.MethodName) ({ cls := "java/lang/Throwable", name := "fillInStackTrace", desc := "()Ljava/lang/Throwable;" } : Jvm.MethodName)) ∈ lw_all := lw_g (lw_at lw_m1 93 rfl) rfl
theorem q581 : (Jvm.Cond.selects "java/lang/IndexOutOfBoundsException" ({ cls := "java/lang/Object", name := "getClass", desc := "()Ljava/lang/Class;" } : Jvm.MethodName) ({ cls := "java/lang/Object", name := "getClass", desc := "()Ljava/lang/Class;" } : Jvm.MethodName)) ∈ lw_all := lw_g (lw_at lw_m3 72 rfl) rfl
theorem q758 : (Jvm.Cond.instanceMethod ({ cls := "java/lang/IndexOutOfBoundsException", name := "<init>", desc := "(Ljava/lang/String;)V" } : Jvm.MethodName)) ∈ lw_all := lw_g (lw_at lw_m4 9 rfl) rfl
theorem q759 : (Jvm.Cond.code ({ cls := "java/lang/IndexOutOfBoundsException", name := "<init>", desc := "(Ljava/lang/String;)V" } : Jvm.MethodName) prog_18_method_2_code (2 : Nat) (Option.none : Option Jvm.ClassFile.FieldType)) ∈ lw_all := lw_g (lw_at lw_m4 10 rfl) rfl
theorem q760 : (Jvm.Cond.methodLink "java/lang/IndexOutOfBoundsException" (7 : Nat) ({ cls := "java/lang/RuntimeException", name := "<init>", desc := "(Ljava/lang/String;)V" } : Jvm.MethodName)) ∈ lw_all := lw_g (lw_at lw_m4 11 rfl) rfl
theorem q769 : (Jvm.Cond.declares ({ cls := "java/lang/IndexOutOfBoundsException", name := "<init>", desc := "()V" } : Jvm.MethodName)) ∈ lw_tbl := lw_at lw_m4 20 rfl
theorem q770 : (Jvm.Cond.declares ({ cls := "java/lang/IndexOutOfBoundsException", name := "<init>", desc := "(Ljava/lang/String;)V" } : Jvm.MethodName)) ∈ lw_tbl := lw_at lw_m4 21 rfl
theorem q780 : (Jvm.Cond.instantiable "java/lang/IndexOutOfBoundsException" (6 : Nat)) ∈ lw_all := lw_g (lw_at lw_m4 31 rfl) rfl
theorem q781 : (Jvm.Cond.castable "java/lang/IndexOutOfBoundsException" "java/lang/IndexOutOfBoundsException") ∈ lw_tbl := lw_at lw_m4 32 rfl
theorem q782 : (Jvm.Cond.selects "java/lang/IndexOutOfBoundsException" ({ cls := "java/lang/Throwable", name := "fillInStackTrace", desc := "(I)Ljava/lang/Throwable;" } : Jvm.MethodName) ({ cls := "java/lang/Throwable", name := "fillInStackTrace", desc := "(I)Ljava/lang/Throwable;" } : Jvm.MethodName)) ∈ lw_all := lw_g (lw_at lw_m4 33 rfl) rfl
theorem q783 : (Jvm.Cond.lays "java/lang/IndexOutOfBoundsException" "java/lang/Throwable" "cause" "Ljava/lang/Throwable;") ∈ lw_all := lw_g (lw_at lw_m4 34 rfl) rfl
theorem q784 : (Jvm.Cond.lays "java/lang/IndexOutOfBoundsException" "java/lang/Throwable" "stackTrace" "[Ljava/lang/StackTraceElement;") ∈ lw_all := lw_g (lw_at lw_m4 35 rfl) rfl
theorem q785 : (Jvm.Cond.lays "java/lang/IndexOutOfBoundsException" "java/lang/Throwable" "suppressedExceptions" "Ljava/util/List;") ∈ lw_all := lw_g (lw_at lw_m4 36 rfl) rfl
theorem q786 : (Jvm.Cond.lays "java/lang/IndexOutOfBoundsException" "java/lang/Throwable" "detailMessage" "Ljava/lang/String;") ∈ lw_all := lw_g (lw_at lw_m4 37 rfl) rfl
theorem q787 : (Jvm.Cond.lays "java/lang/IndexOutOfBoundsException" "java/lang/Throwable" "backtrace" "Ljava/lang/Object;") ∈ lw_all := lw_g (lw_at lw_m4 38 rfl) rfl
theorem q789 : (Jvm.Cond.instanceMethod ({ cls := "java/lang/IndexOutOfBoundsException", name := "<init>", desc := "()V" } : Jvm.MethodName)) ∈ lw_all := lw_g (lw_at lw_m4 40 rfl) rfl
theorem q790 : (Jvm.Cond.code ({ cls := "java/lang/IndexOutOfBoundsException", name := "<init>", desc := "()V" } : Jvm.MethodName) prog_18_method_1_code (1 : Nat) (Option.none : Option Jvm.ClassFile.FieldType)) ∈ lw_all := lw_g (lw_at lw_m4 41 rfl) rfl
theorem q791 : (Jvm.Cond.methodLink "java/lang/IndexOutOfBoundsException" (1 : Nat) ({ cls := "java/lang/RuntimeException", name := "<init>", desc := "()V" } : Jvm.MethodName)) ∈ lw_all := lw_g (lw_at lw_m4 42 rfl) rfl
theorem q792 : (Jvm.Cond.lays "java/lang/IndexOutOfBoundsException" "java/lang/Throwable" "depth" "I") ∈ lw_all := lw_g (lw_at lw_m4 43 rfl) rfl
theorem q793 : (Jvm.Cond.superclass "java/lang/IndexOutOfBoundsException" "java/lang/RuntimeException") ∈ lw_all := lw_g (lw_at lw_m4 44 rfl) rfl
theorem q1210 : (Jvm.Cond.castable "java/lang/IndexOutOfBoundsException" "java/lang/Object") ∈ lw_tbl := lw_at lw_m5 221 rfl
theorem in_J20 : ∀ w ∈ wsJ200, w ∈ lw_all := lw_in wsJ200 [783, 784, 785, 786, 787, 792] (by decide +kernel) (by decide +kernel)
theorem q34 : (Jvm.Cond.initialized "java/lang/Throwable") ∈ lw_all := lw_g (lw_at lw_m1 5 rfl) rfl
theorem q94 : (Jvm.Cond.declares ({ cls := "java/lang/Throwable", name := "<init>", desc := "()V" } : Jvm.MethodName)) ∈ lw_tbl := lw_at lw_m1 65 rfl
theorem q95 : (Jvm.Cond.declares ({ cls := "java/lang/Throwable", name := "<init>", desc := "(Ljava/lang/String;)V" } : Jvm.MethodName)) ∈ lw_tbl := lw_at lw_m1 66 rfl
theorem q99 : (Jvm.Cond.lays "java/lang/Throwable" "java/lang/Throwable" "cause" "Ljava/lang/Throwable;") ∈ lw_all := lw_g (lw_at lw_m1 70 rfl) rfl
theorem q101 : (Jvm.Cond.lays "java/lang/Throwable" "java/lang/Throwable" "stackTrace" "[Ljava/lang/StackTraceElement;") ∈ lw_all := lw_g (lw_at lw_m1 72 rfl) rfl
theorem q103 : (Jvm.Cond.lays "java/lang/Throwable" "java/lang/Throwable" "suppressedExceptions" "Ljava/util/List;") ∈ lw_all := lw_g (lw_at lw_m1 74 rfl) rfl
theorem q105 : (Jvm.Cond.lays "java/lang/Throwable" "java/lang/Throwable" "detailMessage" "Ljava/lang/String;") ∈ lw_all := lw_g (lw_at lw_m1 76 rfl) rfl
theorem q107 : (Jvm.Cond.lays "java/lang/Throwable" "java/lang/Throwable" "backtrace" "Ljava/lang/Object;") ∈ lw_all := lw_g (lw_at lw_m1 78 rfl) rfl
theorem q108 : (Jvm.Cond.fieldLink "java/lang/Throwable" (198 : Nat) "java/lang/Throwable" "backtrace" "Ljava/lang/Object;") ∈ lw_all := lw_g (lw_at lw_m1 79 rfl) rfl
theorem q109 : (Jvm.Cond.superclass "java/lang/Throwable" "java/lang/Object") ∈ lw_all := lw_g (lw_at lw_m1 80 rfl) rfl
theorem q110 : (Jvm.Cond.instanceMethod ({ cls := "java/lang/Throwable", name := "<init>", desc := "()V" } : Jvm.MethodName)) ∈ lw_all := lw_g (lw_at lw_m1 81 rfl) rfl
theorem q111 : (Jvm.Cond.code ({ cls := "java/lang/Throwable", name := "<init>", desc := "()V" } : Jvm.MethodName) prog_30_method_1_code (1 : Nat) (Option.none : Option Jvm.ClassFile.FieldType)) ∈ lw_all := lw_g (lw_at lw_m1 82 rfl) rfl
theorem q112 : (Jvm.Cond.methodLink "java/lang/Throwable" (1 : Nat) ({ cls := "java/lang/Object", name := "<init>", desc := "()V" } : Jvm.MethodName)) ∈ lw_all := lw_g (lw_at lw_m1 83 rfl) rfl
theorem q113 : (Jvm.Cond.fieldLink "java/lang/Throwable" (13 : Nat) "java/lang/Throwable" "UNASSIGNED_STACK" "[Ljava/lang/StackTraceElement;") ∈ lw_all := lw_g (lw_at lw_m1 84 rfl) rfl
theorem q114 : (Jvm.Cond.laysStatic "java/lang/Throwable" "UNASSIGNED_STACK" "[Ljava/lang/StackTraceElement;") ∈ lw_tbl := lw_at lw_m1 85 rfl
theorem q115 : (Jvm.Cond.fieldLink "java/lang/Throwable" (20 : Nat) "java/lang/Throwable" "SUPPRESSED_SENTINEL" "Ljava/util/List;") ∈ lw_all := lw_g (lw_at lw_m1 86 rfl) rfl
theorem q116 : (Jvm.Cond.laysStatic "java/lang/Throwable" "SUPPRESSED_SENTINEL" "Ljava/util/List;") ∈ lw_tbl := lw_at lw_m1 87 rfl
theorem q117 : (Jvm.Cond.methodLink "java/lang/Throwable" (27 : Nat) ({ cls := "java/lang/Throwable", name := "fillInStackTrace", desc := "()Ljava/lang/Throwable;" } : Jvm.MethodName)) ∈ lw_all := lw_g (lw_at lw_m1 88 rfl) rfl
theorem q118 : (Jvm.Cond.instanceMethod ({ cls := "java/lang/Throwable", name := "fillInStackTrace", desc := "()Ljava/lang/Throwable;" } : Jvm.MethodName)) ∈ lw_all := lw_g (lw_at lw_m1 89 rfl) rfl
theorem q119 : (Jvm.Cond.sameMethod "java/lang/Throwable" "java/lang/Throwable" "fillInStackTrace" "()Ljava/lang/Throwable;") ∈ lw_all := lw_g (lw_at lw_m1 90 rfl) rfl
theorem q123 : (Jvm.Cond.codeSync ({ cls := "java/lang/Throwable", name := "fillInStackTrace", desc := "()Ljava/lang/Throwable;" } : Jvm.MethodName) prog_30_method_18_code (1 : Nat) (Option.some (Jvm.ClassFile.FieldType.object "java/lang/Throwable"))) ∈ lw_all := lw_g (lw_at lw_m1 94 rfl) rfl
theorem q124 : (Jvm.Cond.methodLink "java/lang/Throwable" (202 : Nat) ({ cls := "java/lang/Throwable", name := "fillInStackTrace", desc := "(I)Ljava/lang/Throwable;" } : Jvm.MethodName)) ∈ lw_all := lw_g (lw_at lw_m1 95 rfl) rfl
theorem q125 : (Jvm.Cond.privateMethod ({ cls := "java/lang/Throwable", name := "fillInStackTrace", desc := "(I)Ljava/lang/Throwable;" } : Jvm.MethodName)) ∈ lw_tbl := lw_at lw_m1 96 rfl
theorem q126 : (Jvm.Cond.instanceMethod ({ cls := "java/lang/Throwable", name := "fillInStackTrace", desc := "(I)Ljava/lang/Throwable;" } : Jvm.MethodName)) ∈ lw_all := lw_g (lw_at lw_m1 97 rfl) rfl
theorem q127 : (Jvm.Cond.instantiable "java/lang/Throwable" (6 : Nat)) ∈ lw_all := lw_g (lw_at lw_m1 98 rfl) rfl
theorem q128 : (Jvm.Cond.native ({ cls := "java/lang/Throwable", name := "fillInStackTrace", desc := "(I)Ljava/lang/Throwable;" } : Jvm.MethodName)) ∈ lw_all := lw_g (lw_at lw_m1 99 rfl) rfl
theorem q362 : (Jvm.Cond.instanceMethod ({ cls := "java/lang/Throwable", name := "<init>", desc := "(Ljava/lang/String;)V" } : Jvm.MethodName)) ∈ lw_all := lw_g (lw_at lw_m2 93 rfl) rfl
theorem q363 : (Jvm.Cond.code ({ cls := "java/lang/Throwable", name := "<init>", desc := "(Ljava/lang/String;)V" } : Jvm.MethodName) prog_30_method_2_code (2 : Nat) (Option.none : Option Jvm.ClassFile.FieldType)) ∈ lw_all := lw_g (lw_at lw_m2 94 rfl) rfl
theorem q364 : (Jvm.Cond.fieldLink "java/lang/Throwable" (198 : Nat) "java/lang/Throwable" "backtrace" "Ljava/lang/Object;") ∈ lw_all := lw_g (lw_at lw_m2 95 rfl) rfl
theorem q365 : (Jvm.Cond.fieldLink "java/lang/Throwable" (31 : Nat) "java/lang/Throwable" "detailMessage" "Ljava/lang/String;") ∈ lw_all := lw_g (lw_at lw_m2 96 rfl) rfl
theorem q366 : (Jvm.Cond.fieldLink "java/lang/Throwable" (7 : Nat) "java/lang/Throwable" "cause" "Ljava/lang/Throwable;") ∈ lw_all := lw_g (lw_at lw_m2 97 rfl) rfl
theorem q367 : (Jvm.Cond.fieldLink "java/lang/Throwable" (17 : Nat) "java/lang/Throwable" "stackTrace" "[Ljava/lang/StackTraceElement;") ∈ lw_all := lw_g (lw_at lw_m2 98 rfl) rfl
theorem q368 : (Jvm.Cond.fieldLink "java/lang/Throwable" (24 : Nat) "java/lang/Throwable" "suppressedExceptions" "Ljava/util/List;") ∈ lw_all := lw_g (lw_at lw_m2 99 rfl) rfl
theorem q369 : (Jvm.Cond.soleField "java/lang/Throwable" "backtrace") ∈ lw_all := lw_g (lw_at lw_m2 100 rfl) rfl
theorem q370 : (Jvm.Cond.soleField "java/lang/Throwable" "detailMessage") ∈ lw_all := lw_g (lw_at lw_m2 101 rfl) rfl
theorem q371 : (Jvm.Cond.soleField "java/lang/Throwable" "cause") ∈ lw_all := lw_g (lw_at lw_m2 102 rfl) rfl
theorem q372 : (Jvm.Cond.soleField "java/lang/Throwable" "stackTrace") ∈ lw_all := lw_g (lw_at lw_m2 103 rfl) rfl
theorem q374 : (Jvm.Cond.soleField "java/lang/Throwable" "depth") ∈ lw_all := lw_g (lw_at lw_m2 105 rfl) rfl
theorem q375 : (Jvm.Cond.soleField "java/lang/Throwable" "suppressedExceptions") ∈ lw_all := lw_g (lw_at lw_m2 106 rfl) rfl
theorem q1186 : (Jvm.Cond.sameMethod "java/lang/Throwable" "java/lang/Throwable" "fillInStackTrace" "(I)Ljava/lang/Throwable;") ∈ lw_all := lw_g (lw_at lw_m5 197 rfl) rfl
theorem q1216 : (Jvm.Cond.castable "java/lang/Throwable" "java/lang/Object") ∈ lw_tbl := lw_at lw_m5 227 rfl
theorem in_J3 : ∀ w ∈ wsJ30, w ∈ lw_all := lw_in wsJ30 [99, 101, 103, 105, 107] (by decide +kernel) (by decide +kernel)
theorem q35 : (Jvm.Cond.initialized "java/lang/Exception") ∈ lw_all := lw_g (lw_at lw_m1 6 rfl) rfl
theorem q92 : (Jvm.Cond.declares ({ cls := "java/lang/Exception", name := "<init>", desc := "()V" } : Jvm.MethodName)) ∈ lw_tbl := lw_at lw_m1 63 rfl
theorem q93 : (Jvm.Cond.declares ({ cls := "java/lang/Exception", name := "<init>", desc := "(Ljava/lang/String;)V" } : Jvm.MethodName)) ∈ lw_tbl := lw_at lw_m1 64 rfl
theorem q359 : (Jvm.Cond.instanceMethod ({ cls := "java/lang/Exception", name := "<init>", desc := "(Ljava/lang/String;)V" } : Jvm.MethodName)) ∈ lw_all := lw_g (lw_at lw_m2 90 rfl) rfl
theorem q360 : (Jvm.Cond.code ({ cls := "java/lang/Exception", name := "<init>", desc := "(Ljava/lang/String;)V" } : Jvm.MethodName) prog_15_method_2_code (2 : Nat) (Option.none : Option Jvm.ClassFile.FieldType)) ∈ lw_all := lw_g (lw_at lw_m2 91 rfl) rfl
theorem q361 : (Jvm.Cond.methodLink "java/lang/Exception" (7 : Nat) ({ cls := "java/lang/Throwable", name := "<init>", desc := "(Ljava/lang/String;)V" } : Jvm.MethodName)) ∈ lw_all := lw_g (lw_at lw_m2 92 rfl) rfl
theorem q667 : (Jvm.Cond.instanceMethod ({ cls := "java/lang/Exception", name := "<init>", desc := "()V" } : Jvm.MethodName)) ∈ lw_all := lw_g (lw_at lw_m3 158 rfl) rfl
theorem q668 : (Jvm.Cond.code ({ cls := "java/lang/Exception", name := "<init>", desc := "()V" } : Jvm.MethodName) prog_15_method_1_code (1 : Nat) (Option.none : Option Jvm.ClassFile.FieldType)) ∈ lw_all := lw_g (lw_at lw_m3 159 rfl) rfl
theorem q669 : (Jvm.Cond.methodLink "java/lang/Exception" (1 : Nat) ({ cls := "java/lang/Throwable", name := "<init>", desc := "()V" } : Jvm.MethodName)) ∈ lw_all := lw_g (lw_at lw_m3 160 rfl) rfl
theorem q36 : (Jvm.Cond.initialized "java/lang/RuntimeException") ∈ lw_all := lw_g (lw_at lw_m1 7 rfl) rfl
theorem q90 : (Jvm.Cond.declares ({ cls := "java/lang/RuntimeException", name := "<init>", desc := "()V" } : Jvm.MethodName)) ∈ lw_tbl := lw_at lw_m1 61 rfl
theorem q91 : (Jvm.Cond.declares ({ cls := "java/lang/RuntimeException", name := "<init>", desc := "(Ljava/lang/String;)V" } : Jvm.MethodName)) ∈ lw_tbl := lw_at lw_m1 62 rfl
theorem q356 : (Jvm.Cond.instanceMethod ({ cls := "java/lang/RuntimeException", name := "<init>", desc := "(Ljava/lang/String;)V" } : Jvm.MethodName)) ∈ lw_all := lw_g (lw_at lw_m2 87 rfl) rfl
theorem q357 : (Jvm.Cond.code ({ cls := "java/lang/RuntimeException", name := "<init>", desc := "(Ljava/lang/String;)V" } : Jvm.MethodName) prog_24_method_2_code (2 : Nat) (Option.none : Option Jvm.ClassFile.FieldType)) ∈ lw_all := lw_g (lw_at lw_m2 88 rfl) rfl
theorem q358 : (Jvm.Cond.methodLink "java/lang/RuntimeException" (7 : Nat) ({ cls := "java/lang/Exception", name := "<init>", desc := "(Ljava/lang/String;)V" } : Jvm.MethodName)) ∈ lw_all := lw_g (lw_at lw_m2 89 rfl) rfl
theorem q664 : (Jvm.Cond.instanceMethod ({ cls := "java/lang/RuntimeException", name := "<init>", desc := "()V" } : Jvm.MethodName)) ∈ lw_all := lw_g (lw_at lw_m3 155 rfl) rfl
theorem q665 : (Jvm.Cond.code ({ cls := "java/lang/RuntimeException", name := "<init>", desc := "()V" } : Jvm.MethodName) prog_24_method_1_code (1 : Nat) (Option.none : Option Jvm.ClassFile.FieldType)) ∈ lw_all := lw_g (lw_at lw_m3 156 rfl) rfl
theorem q666 : (Jvm.Cond.methodLink "java/lang/RuntimeException" (1 : Nat) ({ cls := "java/lang/Exception", name := "<init>", desc := "()V" } : Jvm.MethodName)) ∈ lw_all := lw_g (lw_at lw_m3 157 rfl) rfl
theorem q84 : (Jvm.Cond.arrayOver (Jvm.ClassFile.FieldType.object "java/lang/Object")) ∈ lw_tbl := lw_at lw_m1 55 rfl
theorem q160 : (Jvm.Cond.arrayClass Jvm.ClassFile.FieldType.int) ∈ lw_all := lw_g (lw_at lw_m1 131 rfl) rfl
theorem q161 : (Jvm.Cond.arrayClass Jvm.ClassFile.FieldType.byte) ∈ lw_all := lw_g (lw_at lw_m1 132 rfl) rfl
theorem q162 : (Jvm.Cond.arrayClass Jvm.ClassFile.FieldType.boolean) ∈ lw_all := lw_g (lw_at lw_m1 133 rfl) rfl
theorem q1185 : (Jvm.Cond.arrayClass Jvm.ClassFile.FieldType.long) ∈ lw_all := lw_g (lw_at lw_m5 196 rfl) rfl
theorem q45 : (Jvm.Cond.initialized "java/lang/System") ∈ lw_all := lw_g (lw_at lw_m1 16 rfl) rfl
theorem q208 : (Jvm.Cond.static ({ cls := "java/lang/System", name := "arraycopy", desc := "(Ljava/lang/Object;ILjava/lang/Object;II)V" } : Jvm.MethodName)) ∈ lw_all := lw_g (lw_at lw_m1 179 rfl) rfl
theorem q209 : (Jvm.Cond.native ({ cls := "java/lang/System", name := "arraycopy", desc := "(Ljava/lang/Object;ILjava/lang/Object;II)V" } : Jvm.MethodName)) ∈ lw_all := lw_g (lw_at lw_m1 180 rfl) rfl
theorem q55 : (Jvm.Cond.initialized "java/lang/Integer$IntegerCache") ∈ lw_all := lw_g (lw_at lw_m1 26 rfl) rfl
theorem q734 : (Jvm.Cond.laysStatic "java/lang/Integer$IntegerCache" "high" "I") ∈ lw_tbl := lw_at lw_m3 225 rfl
theorem q736 : (Jvm.Cond.laysStatic "java/lang/Integer$IntegerCache" "cache" "[Ljava/lang/Integer;") ∈ lw_tbl := lw_at lw_m3 227 rfl
theorem q198 : (Jvm.Cond.sameMethod "[B" "java/lang/Object" "clone" "()Ljava/lang/Object;") ∈ lw_all := lw_g (lw_at lw_m1 169 rfl) rfl
theorem q201 : (Jvm.Cond.selects "[B" ({ cls := "[B", name := "clone", desc := "()Ljava/lang/Object;" } : Jvm.MethodName) ({ cls := "java/lang/Object", name := "clone", desc := "()Ljava/lang/Object;" } : Jvm.MethodName)) ∈ lw_all := lw_g (lw_at lw_m1 172 rfl) rfl
theorem q202 : (Jvm.Cond.castable "[B" "java/lang/Cloneable") ∈ lw_tbl := lw_at lw_m1 173 rfl
theorem q1222 : (Jvm.Cond.castable "[B" "java/lang/Object") ∈ lw_tbl := lw_at lw_m5 233 rfl
theorem q1217 : (Jvm.Cond.sameMethod "[Ljava/lang/Object;" "java/lang/Object" "getClass" "()Ljava/lang/Class;") ∈ lw_all := lw_g (lw_at lw_m5 228 rfl) rfl
theorem q1218 : (Jvm.Cond.selects "[Ljava/lang/Object;" ({ cls := "java/lang/Object", name := "getClass", desc := "()Ljava/lang/Class;" } : Jvm.MethodName) ({ cls := "java/lang/Object", name := "getClass", desc := "()Ljava/lang/Class;" } : Jvm.MethodName)) ∈ lw_all := lw_g (lw_at lw_m5 229 rfl) rfl
theorem q1220 : (Jvm.Cond.castable "[Ljava/lang/Object;" "java/lang/Object") ∈ lw_tbl := lw_at lw_m5 231 rfl
theorem q1221 : (Jvm.Cond.castable "[I" "java/lang/Object") ∈ lw_tbl := lw_at lw_m5 232 rfl
theorem q1223 : (Jvm.Cond.castable "[Z" "java/lang/Object") ∈ lw_tbl := lw_at lw_m5 234 rfl
theorem q1224 : (Jvm.Cond.castable "[J" "java/lang/Object") ∈ lw_tbl := lw_at lw_m5 235 rfl
