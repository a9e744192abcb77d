set_option maxRecDepth 100000
theorem q1004 : (Jvm.Cond.selects "PollAuditModel" ({ cls := "PollAuditModel", name := "thrown", desc := "()I" } : Jvm.MethodName) ({ cls := "PollAuditModel", name := "thrown", desc := "()I" } : Jvm.MethodName)) ∈ lw_all := lw_g (lw_at lw_m4 232 rfl) rfl
theorem q1005 : (Jvm.Cond.code ({ cls := "PollAuditModel", name := "thrown", desc := "()I" } : Jvm.MethodName) prog_13_method_1_code (1 : Nat) (Option.some Jvm.ClassFile.FieldType.int)) ∈ lw_all := lw_g (lw_at lw_m4 233 rfl) rfl
theorem q1007 : (Jvm.Cond.instantiable "PollAuditModel" (45 : Nat)) ∈ lw_all := lw_g (lw_at lw_m4 235 rfl) rfl
theorem q1009 : (Jvm.Cond.instanceMethod ({ cls := "PollAuditModel", name := "<init>", desc := "()V" } : Jvm.MethodName)) ∈ lw_all := lw_g (lw_at lw_m4 237 rfl) rfl
theorem q1010 : (Jvm.Cond.code ({ cls := "PollAuditModel", name := "<init>", desc := "()V" } : Jvm.MethodName) prog_13_method_2_code (1 : Nat) (Option.none : Option Jvm.ClassFile.FieldType)) ∈ lw_all := lw_g (lw_at lw_m4 238 rfl) rfl
theorem q1011 : (Jvm.Cond.methodLink "PollAuditModel" (7 : Nat) ({ cls := "java/lang/Object", name := "<init>", desc := "()V" } : Jvm.MethodName)) ∈ lw_all := lw_g (lw_at lw_m4 239 rfl) rfl
theorem q1012 : (Jvm.Cond.constant "PollAuditModel" (82 : Nat) (77000 : Int32)) ∈ lw_all := lw_g (lw_at lw_m5 0 rfl) rfl
theorem q1013 : (Jvm.Cond.constant "PollAuditModel" (89 : Nat) (1116352408 : Int32)) ∈ lw_all := lw_g (lw_at lw_m5 1 rfl) rfl
theorem q1014 : (Jvm.Cond.constant "PollAuditModel" (90 : Nat) (1899447441 : Int32)) ∈ lw_all := lw_g (lw_at lw_m5 2 rfl) rfl
theorem q1015 : (Jvm.Cond.constant "PollAuditModel" (91 : Nat) (-1245643825 : Int32)) ∈ lw_all := lw_g (lw_at lw_m5 3 rfl) rfl
theorem q1016 : (Jvm.Cond.constant "PollAuditModel" (92 : Nat) (-373957723 : Int32)) ∈ lw_all := lw_g (lw_at lw_m5 4 rfl) rfl
theorem q1017 : (Jvm.Cond.constant "PollAuditModel" (93 : Nat) (961987163 : Int32)) ∈ lw_all := lw_g (lw_at lw_m5 5 rfl) rfl
theorem q1018 : (Jvm.Cond.constant "PollAuditModel" (94 : Nat) (1508970993 : Int32)) ∈ lw_all := lw_g (lw_at lw_m5 6 rfl) rfl
theorem q1019 : (Jvm.Cond.constant "PollAuditModel" (95 : Nat) (-1841331548 : Int32)) ∈ lw_all := lw_g (lw_at lw_m5 7 rfl) rfl
theorem q1020 : (Jvm.Cond.constant "PollAuditModel" (96 : Nat) (-1424204075 : Int32)) ∈ lw_all := lw_g (lw_at lw_m5 8 rfl) rfl
theorem q1021 : (Jvm.Cond.constant "PollAuditModel" (97 : Nat) (-670586216 : Int32)) ∈ lw_all := lw_g (lw_at lw_m5 9 rfl) rfl
theorem q1022 : (Jvm.Cond.constant "PollAuditModel" (98 : Nat) (310598401 : Int32)) ∈ lw_all := lw_g (lw_at lw_m5 10 rfl) rfl
theorem q1023 : (Jvm.Cond.constant "PollAuditModel" (99 : Nat) (607225278 : Int32)) ∈ lw_all := lw_g (lw_at lw_m5 11 rfl) rfl
theorem q1024 : (Jvm.Cond.constant "PollAuditModel" (100 : Nat) (1426881987 : Int32)) ∈ lw_all := lw_g (lw_at lw_m5 12 rfl) rfl
theorem q1025 : (Jvm.Cond.constant "PollAuditModel" (101 : Nat) (1925078388 : Int32)) ∈ lw_all := lw_g (lw_at lw_m5 13 rfl) rfl
theorem q1026 : (Jvm.Cond.constant "PollAuditModel" (102 : Nat) (-2132889090 : Int32)) ∈ lw_all := lw_g (lw_at lw_m5 14 rfl) rfl
theorem q1027 : (Jvm.Cond.constant "PollAuditModel" (103 : Nat) (-1680079193 : Int32)) ∈ lw_all := lw_g (lw_at lw_m5 15 rfl) rfl
theorem q1028 : (Jvm.Cond.constant "PollAuditModel" (104 : Nat) (-1046744716 : Int32)) ∈ lw_all := lw_g (lw_at lw_m5 16 rfl) rfl
theorem q1029 : (Jvm.Cond.constant "PollAuditModel" (105 : Nat) (-459576895 : Int32)) ∈ lw_all := lw_g (lw_at lw_m5 17 rfl) rfl
theorem q1030 : (Jvm.Cond.constant "PollAuditModel" (106 : Nat) (-272742522 : Int32)) ∈ lw_all := lw_g (lw_at lw_m5 18 rfl) rfl
theorem q1031 : (Jvm.Cond.constant "PollAuditModel" (107 : Nat) (264347078 : Int32)) ∈ lw_all := lw_g (lw_at lw_m5 19 rfl) rfl
theorem q1032 : (Jvm.Cond.constant "PollAuditModel" (108 : Nat) (604807628 : Int32)) ∈ lw_all := lw_g (lw_at lw_m5 20 rfl) rfl
theorem q1033 : (Jvm.Cond.constant "PollAuditModel" (109 : Nat) (770255983 : Int32)) ∈ lw_all := lw_g (lw_at lw_m5 21 rfl) rfl
theorem q1034 : (Jvm.Cond.constant "PollAuditModel" (110 : Nat) (1249150122 : Int32)) ∈ lw_all := lw_g (lw_at lw_m5 22 rfl) rfl
theorem q1035 : (Jvm.Cond.constant "PollAuditModel" (111 : Nat) (1555081692 : Int32)) ∈ lw_all := lw_g (lw_at lw_m5 23 rfl) rfl
theorem q1036 : (Jvm.Cond.constant "PollAuditModel" (112 : Nat) (1996064986 : Int32)) ∈ lw_all := lw_g (lw_at lw_m5 24 rfl) rfl
theorem q1037 : (Jvm.Cond.constant "PollAuditModel" (113 : Nat) (-1740746414 : Int32)) ∈ lw_all := lw_g (lw_at lw_m5 25 rfl) rfl
theorem q1038 : (Jvm.Cond.constant "PollAuditModel" (114 : Nat) (-1473132947 : Int32)) ∈ lw_all := lw_g (lw_at lw_m5 26 rfl) rfl
theorem q1039 : (Jvm.Cond.constant "PollAuditModel" (115 : Nat) (-1341970488 : Int32)) ∈ lw_all := lw_g (lw_at lw_m5 27 rfl) rfl
theorem q1040 : (Jvm.Cond.constant "PollAuditModel" (116 : Nat) (-1084653625 : Int32)) ∈ lw_all := lw_g (lw_at lw_m5 28 rfl) rfl
theorem q1041 : (Jvm.Cond.constant "PollAuditModel" (117 : Nat) (-958395405 : Int32)) ∈ lw_all := lw_g (lw_at lw_m5 29 rfl) rfl
theorem q1042 : (Jvm.Cond.constant "PollAuditModel" (118 : Nat) (-710438585 : Int32)) ∈ lw_all := lw_g (lw_at lw_m5 30 rfl) rfl
theorem q1043 : (Jvm.Cond.constant "PollAuditModel" (119 : Nat) (113926993 : Int32)) ∈ lw_all := lw_g (lw_at lw_m5 31 rfl) rfl
theorem q1044 : (Jvm.Cond.constant "PollAuditModel" (120 : Nat) (338241895 : Int32)) ∈ lw_all := lw_g (lw_at lw_m5 32 rfl) rfl
theorem q1045 : (Jvm.Cond.constant "PollAuditModel" (121 : Nat) (666307205 : Int32)) ∈ lw_all := lw_g (lw_at lw_m5 33 rfl) rfl
theorem q1046 : (Jvm.Cond.constant "PollAuditModel" (122 : Nat) (773529912 : Int32)) ∈ lw_all := lw_g (lw_at lw_m5 34 rfl) rfl
theorem q1047 : (Jvm.Cond.constant "PollAuditModel" (123 : Nat) (1294757372 : Int32)) ∈ lw_all := lw_g (lw_at lw_m5 35 rfl) rfl
theorem q1048 : (Jvm.Cond.constant "PollAuditModel" (124 : Nat) (1396182291 : Int32)) ∈ lw_all := lw_g (lw_at lw_m5 36 rfl) rfl
theorem q1049 : (Jvm.Cond.constant "PollAuditModel" (125 : Nat) (1695183700 : Int32)) ∈ lw_all := lw_g (lw_at lw_m5 37 rfl) rfl
theorem q1050 : (Jvm.Cond.constant "PollAuditModel" (126 : Nat) (1986661051 : Int32)) ∈ lw_all := lw_g (lw_at lw_m5 38 rfl) rfl
theorem q1051 : (Jvm.Cond.constant "PollAuditModel" (127 : Nat) (-2117940946 : Int32)) ∈ lw_all := lw_g (lw_at lw_m5 39 rfl) rfl
theorem q1052 : (Jvm.Cond.constant "PollAuditModel" (128 : Nat) (-1838011259 : Int32)) ∈ lw_all := lw_g (lw_at lw_m5 40 rfl) rfl
theorem q1053 : (Jvm.Cond.constant "PollAuditModel" (129 : Nat) (-1564481375 : Int32)) ∈ lw_all := lw_g (lw_at lw_m5 41 rfl) rfl
theorem q1054 : (Jvm.Cond.constant "PollAuditModel" (130 : Nat) (-1474664885 : Int32)) ∈ lw_all := lw_g (lw_at lw_m5 42 rfl) rfl
theorem q1055 : (Jvm.Cond.constant "PollAuditModel" (131 : Nat) (-1035236496 : Int32)) ∈ lw_all := lw_g (lw_at lw_m5 43 rfl) rfl
theorem q1056 : (Jvm.Cond.constant "PollAuditModel" (132 : Nat) (-949202525 : Int32)) ∈ lw_all := lw_g (lw_at lw_m5 44 rfl) rfl
theorem q1057 : (Jvm.Cond.constant "PollAuditModel" (133 : Nat) (-778901479 : Int32)) ∈ lw_all := lw_g (lw_at lw_m5 45 rfl) rfl
theorem q1058 : (Jvm.Cond.constant "PollAuditModel" (134 : Nat) (-694614492 : Int32)) ∈ lw_all := lw_g (lw_at lw_m5 46 rfl) rfl
theorem q1059 : (Jvm.Cond.constant "PollAuditModel" (135 : Nat) (-200395387 : Int32)) ∈ lw_all := lw_g (lw_at lw_m5 47 rfl) rfl
theorem q1060 : (Jvm.Cond.constant "PollAuditModel" (136 : Nat) (275423344 : Int32)) ∈ lw_all := lw_g (lw_at lw_m5 48 rfl) rfl
theorem q1061 : (Jvm.Cond.constant "PollAuditModel" (137 : Nat) (430227734 : Int32)) ∈ lw_all := lw_g (lw_at lw_m5 49 rfl) rfl
theorem q1062 : (Jvm.Cond.constant "PollAuditModel" (138 : Nat) (506948616 : Int32)) ∈ lw_all := lw_g (lw_at lw_m5 50 rfl) rfl
theorem q1063 : (Jvm.Cond.constant "PollAuditModel" (139 : Nat) (659060556 : Int32)) ∈ lw_all := lw_g (lw_at lw_m5 51 rfl) rfl
theorem q1064 : (Jvm.Cond.constant "PollAuditModel" (140 : Nat) (883997877 : Int32)) ∈ lw_all := lw_g (lw_at lw_m5 52 rfl) rfl
theorem q1065 : (Jvm.Cond.constant "PollAuditModel" (141 : Nat) (958139571 : Int32)) ∈ lw_all := lw_g (lw_at lw_m5 53 rfl) rfl
theorem q1066 : (Jvm.Cond.constant "PollAuditModel" (142 : Nat) (1322822218 : Int32)) ∈ lw_all := lw_g (lw_at lw_m5 54 rfl) rfl
theorem q1067 : (Jvm.Cond.constant "PollAuditModel" (143 : Nat) (1537002063 : Int32)) ∈ lw_all := lw_g (lw_at lw_m5 55 rfl) rfl
theorem q1068 : (Jvm.Cond.constant "PollAuditModel" (144 : Nat) (1747873779 : Int32)) ∈ lw_all := lw_g (lw_at lw_m5 56 rfl) rfl
theorem q1069 : (Jvm.Cond.constant "PollAuditModel" (145 : Nat) (1955562222 : Int32)) ∈ lw_all := lw_g (lw_at lw_m5 57 rfl) rfl
theorem q1070 : (Jvm.Cond.constant "PollAuditModel" (146 : Nat) (2024104815 : Int32)) ∈ lw_all := lw_g (lw_at lw_m5 58 rfl) rfl
theorem q1071 : (Jvm.Cond.constant "PollAuditModel" (147 : Nat) (-2067236844 : Int32)) ∈ lw_all := lw_g (lw_at lw_m5 59 rfl) rfl
theorem q1072 : (Jvm.Cond.constant "PollAuditModel" (148 : Nat) (-1933114872 : Int32)) ∈ lw_all := lw_g (lw_at lw_m5 60 rfl) rfl
theorem q1073 : (Jvm.Cond.constant "PollAuditModel" (149 : Nat) (-1866530822 : Int32)) ∈ lw_all := lw_g (lw_at lw_m5 61 rfl) rfl
theorem q1074 : (Jvm.Cond.constant "PollAuditModel" (150 : Nat) (-1538233109 : Int32)) ∈ lw_all := lw_g (lw_at lw_m5 62 rfl) rfl
theorem q1075 : (Jvm.Cond.constant "PollAuditModel" (151 : Nat) (-1090935817 : Int32)) ∈ lw_all := lw_g (lw_at lw_m5 63 rfl) rfl
theorem q1076 : (Jvm.Cond.constant "PollAuditModel" (152 : Nat) (-965641998 : Int32)) ∈ lw_all := lw_g (lw_at lw_m5 64 rfl) rfl
theorem q1077 : (Jvm.Cond.constant "PollAuditModel" (156 : Nat) (1779033703 : Int32)) ∈ lw_all := lw_g (lw_at lw_m5 65 rfl) rfl
theorem q1078 : (Jvm.Cond.constant "PollAuditModel" (157 : Nat) (-1150833019 : Int32)) ∈ lw_all := lw_g (lw_at lw_m5 66 rfl) rfl
theorem q1079 : (Jvm.Cond.constant "PollAuditModel" (158 : Nat) (1013904242 : Int32)) ∈ lw_all := lw_g (lw_at lw_m5 67 rfl) rfl
theorem q1080 : (Jvm.Cond.constant "PollAuditModel" (159 : Nat) (-1521486534 : Int32)) ∈ lw_all := lw_g (lw_at lw_m5 68 rfl) rfl
theorem q1081 : (Jvm.Cond.constant "PollAuditModel" (160 : Nat) (1359893119 : Int32)) ∈ lw_all := lw_g (lw_at lw_m5 69 rfl) rfl
theorem q1082 : (Jvm.Cond.constant "PollAuditModel" (161 : Nat) (-1694144372 : Int32)) ∈ lw_all := lw_g (lw_at lw_m5 70 rfl) rfl
theorem q1083 : (Jvm.Cond.constant "PollAuditModel" (162 : Nat) (528734635 : Int32)) ∈ lw_all := lw_g (lw_at lw_m5 71 rfl) rfl
theorem q1084 : (Jvm.Cond.constant "PollAuditModel" (163 : Nat) (1541459225 : Int32)) ∈ lw_all := lw_g (lw_at lw_m5 72 rfl) rfl
theorem q1085 : (Jvm.Cond.methodLink "PollAuditModel" (182 : Nat) ({ cls := "PollAuditModel", name := "give", desc := "(IJ)V" } : Jvm.MethodName)) ∈ lw_all := lw_g (lw_at lw_m5 73 rfl) rfl
theorem q1086 : (Jvm.Cond.privateMethod ({ cls := "PollAuditModel", name := "give", desc := "(IJ)V" } : Jvm.MethodName)) ∈ lw_tbl := lw_at lw_m5 74 rfl
theorem q1087 : (Jvm.Cond.instanceMethod ({ cls := "PollAuditModel", name := "give", desc := "(IJ)V" } : Jvm.MethodName)) ∈ lw_all := lw_g (lw_at lw_m5 75 rfl) rfl
theorem q1088 : (Jvm.Cond.code ({ cls := "PollAuditModel", name := "give", desc := "(IJ)V" } : Jvm.MethodName) prog_13_method_4_code (6 : Nat) (Option.none : Option Jvm.ClassFile.FieldType)) ∈ lw_all := lw_g (lw_at lw_m5 76 rfl) rfl
theorem q1089 : (Jvm.Cond.constantLong "PollAuditModel" (186 : Nat) (65535 : Int64)) ∈ lw_all := lw_g (lw_at lw_m5 77 rfl) rfl
theorem q1090 : (Jvm.Cond.fieldLink "PollAuditModel" (1 : Nat) "PollAuditModel" "code" "I") ∈ lw_all := lw_g (lw_at lw_m5 78 rfl) rfl
theorem q1091 : (Jvm.Cond.fieldLink "PollAuditModel" (13 : Nat) "PollAuditModel" "votes" "[I") ∈ lw_all := lw_g (lw_at lw_m5 79 rfl) rfl
theorem q1092 : (Jvm.Cond.fieldLink "PollAuditModel" (234 : Nat) "PollAuditModel" "candidates" "I") ∈ lw_all := lw_g (lw_at lw_m5 80 rfl) rfl
theorem q1093 : (Jvm.Cond.fieldLink "PollAuditModel" (17 : Nat) "PollAuditModel" "win" "I") ∈ lw_all := lw_g (lw_at lw_m5 81 rfl) rfl
theorem q1094 : (Jvm.Cond.fieldLink "PollAuditModel" (20 : Nat) "PollAuditModel" "cap" "I") ∈ lw_all := lw_g (lw_at lw_m5 82 rfl) rfl
theorem q1095 : (Jvm.Cond.fieldLink "PollAuditModel" (23 : Nat) "PollAuditModel" "batchFrom" "[I") ∈ lw_all := lw_g (lw_at lw_m5 83 rfl) rfl
theorem q1096 : (Jvm.Cond.fieldLink "PollAuditModel" (237 : Nat) "PollAuditModel" "batches" "I") ∈ lw_all := lw_g (lw_at lw_m5 84 rfl) rfl
theorem q1097 : (Jvm.Cond.fieldLink "PollAuditModel" (240 : Nat) "PollAuditModel" "ballots" "I") ∈ lw_all := lw_g (lw_at lw_m5 85 rfl) rfl
theorem q1098 : (Jvm.Cond.fieldLink "PollAuditModel" (26 : Nat) "PollAuditModel" "records" "[B") ∈ lw_all := lw_g (lw_at lw_m5 86 rfl) rfl
theorem q1099 : (Jvm.Cond.fieldLink "PollAuditModel" (30 : Nat) "PollAuditModel" "limitUp" "I") ∈ lw_all := lw_g (lw_at lw_m5 87 rfl) rfl
theorem q1100 : (Jvm.Cond.fieldLink "PollAuditModel" (33 : Nat) "PollAuditModel" "limitLow" "I") ∈ lw_all := lw_g (lw_at lw_m5 88 rfl) rfl
theorem q1101 : (Jvm.Cond.fieldLink "PollAuditModel" (36 : Nat) "PollAuditModel" "gammaUp" "I") ∈ lw_all := lw_g (lw_at lw_m5 89 rfl) rfl
theorem q1102 : (Jvm.Cond.fieldLink "PollAuditModel" (39 : Nat) "PollAuditModel" "gammaLow" "I") ∈ lw_all := lw_g (lw_at lw_m5 90 rfl) rfl
theorem q1103 : (Jvm.Cond.fieldLink "PollAuditModel" (42 : Nat) "PollAuditModel" "seed" "[I") ∈ lw_all := lw_g (lw_at lw_m5 91 rfl) rfl
theorem q1104 : (Jvm.Cond.fieldLink "PollAuditModel" (220 : Nat) "PollAuditModel" "digits" "I") ∈ lw_all := lw_g (lw_at lw_m5 92 rfl) rfl
theorem q1105 : (Jvm.Cond.fieldLink "PollAuditModel" (45 : Nat) "PollAuditModel" "coins" "[B") ∈ lw_all := lw_g (lw_at lw_m5 93 rfl) rfl
theorem q1106 : (Jvm.Cond.fieldLink "PollAuditModel" (247 : Nat) "PollAuditModel" "coinCount" "I") ∈ lw_all := lw_g (lw_at lw_m5 94 rfl) rfl
theorem q1107 : (Jvm.Cond.fieldLink "PollAuditModel" (231 : Nat) "PollAuditModel" "stage" "I") ∈ lw_all := lw_g (lw_at lw_m5 95 rfl) rfl
theorem q1108 : (Jvm.Cond.fieldLink "PollAuditModel" (257 : Nat) "PollAuditModel" "comparing" "Z") ∈ lw_all := lw_g (lw_at lw_m5 96 rfl) rfl
theorem q1109 : (Jvm.Cond.fieldLink "PollAuditModel" (261 : Nat) "PollAuditModel" "seeded" "Z") ∈ lw_all := lw_g (lw_at lw_m5 97 rfl) rfl
theorem q1110 : (Jvm.Cond.fieldLink "PollAuditModel" (48 : Nat) "PollAuditModel" "winner" "[Z") ∈ lw_all := lw_g (lw_at lw_m5 98 rfl) rfl
theorem q1111 : (Jvm.Cond.fieldLink "PollAuditModel" (52 : Nat) "PollAuditModel" "pairOf" "[I") ∈ lw_all := lw_g (lw_at lw_m5 99 rfl) rfl
theorem q1112 : (Jvm.Cond.fieldLink "PollAuditModel" (55 : Nat) "PollAuditModel" "pairTo" "[I") ∈ lw_all := lw_g (lw_at lw_m5 100 rfl) rfl
theorem q1113 : (Jvm.Cond.fieldLink "PollAuditModel" (58 : Nat) "PollAuditModel" "sureWith" "[I") ∈ lw_all := lw_g (lw_at lw_m5 101 rfl) rfl
theorem q1114 : (Jvm.Cond.fieldLink "PollAuditModel" (250 : Nat) "PollAuditModel" "pairs" "I") ∈ lw_all := lw_g (lw_at lw_m5 102 rfl) rfl
theorem q1115 : (Jvm.Cond.fieldLink "PollAuditModel" (61 : Nat) "PollAuditModel" "drawn" "[I") ∈ lw_all := lw_g (lw_at lw_m5 103 rfl) rfl
theorem q1116 : (Jvm.Cond.fieldLink "PollAuditModel" (64 : Nat) "PollAuditModel" "seen" "[B") ∈ lw_all := lw_g (lw_at lw_m5 104 rfl) rfl
theorem q1117 : (Jvm.Cond.fieldLink "PollAuditModel" (67 : Nat) "PollAuditModel" "times" "[I") ∈ lw_all := lw_g (lw_at lw_m5 105 rfl) rfl
theorem q1118 : (Jvm.Cond.fieldLink "PollAuditModel" (288 : Nat) "PollAuditModel" "draws" "I") ∈ lw_all := lw_g (lw_at lw_m5 106 rfl) rfl
theorem q1119 : (Jvm.Cond.fieldLink "PollAuditModel" (308 : Nat) "PollAuditModel" "different" "I") ∈ lw_all := lw_g (lw_at lw_m5 107 rfl) rfl
theorem q1120 : (Jvm.Cond.fieldLink "PollAuditModel" (302 : Nat) "PollAuditModel" "blanks" "I") ∈ lw_all := lw_g (lw_at lw_m5 108 rfl) rfl
theorem q1121 : (Jvm.Cond.fieldLink "PollAuditModel" (70 : Nat) "PollAuditModel" "waiting" "I") ∈ lw_all := lw_g (lw_at lw_m5 109 rfl) rfl
theorem q1122 : (Jvm.Cond.fieldLink "PollAuditModel" (73 : Nat) "PollAuditModel" "counts" "[I") ∈ lw_all := lw_g (lw_at lw_m5 110 rfl) rfl
theorem q1123 : (Jvm.Cond.fieldLink "PollAuditModel" (311 : Nat) "PollAuditModel" "right" "Z") ∈ lw_all := lw_g (lw_at lw_m5 111 rfl) rfl
theorem q1124 : (Jvm.Cond.fieldLink "PollAuditModel" (76 : Nat) "PollAuditModel" "big" "[I") ∈ lw_all := lw_g (lw_at lw_m5 112 rfl) rfl
theorem q1125 : (Jvm.Cond.fieldLink "PollAuditModel" (79 : Nat) "PollAuditModel" "size" "[I") ∈ lw_all := lw_g (lw_at lw_m5 113 rfl) rfl
theorem q1126 : (Jvm.Cond.fieldLink "PollAuditModel" (83 : Nat) "PollAuditModel" "odds" "[I") ∈ lw_all := lw_g (lw_at lw_m5 114 rfl) rfl
theorem q1127 : (Jvm.Cond.fieldLink "PollAuditModel" (86 : Nat) "PollAuditModel" "next" "[I") ∈ lw_all := lw_g (lw_at lw_m5 115 rfl) rfl
theorem q1128 : (Jvm.Cond.fieldLink "PollAuditModel" (153 : Nat) "PollAuditModel" "k" "[I") ∈ lw_all := lw_g (lw_at lw_m5 116 rfl) rfl
theorem q1129 : (Jvm.Cond.fieldLink "PollAuditModel" (164 : Nat) "PollAuditModel" "first" "[I") ∈ lw_all := lw_g (lw_at lw_m5 117 rfl) rfl
theorem q1130 : (Jvm.Cond.fieldLink "PollAuditModel" (167 : Nat) "PollAuditModel" "w" "[I") ∈ lw_all := lw_g (lw_at lw_m5 118 rfl) rfl
theorem q1131 : (Jvm.Cond.fieldLink "PollAuditModel" (170 : Nat) "PollAuditModel" "state" "[I") ∈ lw_all := lw_g (lw_at lw_m5 119 rfl) rfl
theorem q1132 : (Jvm.Cond.fieldLink "PollAuditModel" (173 : Nat) "PollAuditModel" "message" "[I") ∈ lw_all := lw_g (lw_at lw_m5 120 rfl) rfl
theorem q1133 : (Jvm.Cond.fieldLink "PollAuditModel" (176 : Nat) "PollAuditModel" "digest" "[I") ∈ lw_all := lw_g (lw_at lw_m5 121 rfl) rfl
theorem q1134 : (Jvm.Cond.fieldLink "PollAuditModel" (179 : Nat) "PollAuditModel" "sure" "[Z") ∈ lw_all := lw_g (lw_at lw_m5 122 rfl) rfl
theorem q1135 : (Jvm.Cond.lays "PollAuditModel" "PollAuditModel" "code" "I") ∈ lw_all := lw_g (lw_at lw_m5 123 rfl) rfl
theorem q1136 : (Jvm.Cond.soleField "PollAuditModel" "code") ∈ lw_all := lw_g (lw_at lw_m5 124 rfl) rfl
theorem q1137 : (Jvm.Cond.laysFinal "PollAuditModel" "PollAuditModel" "votes" "[I") ∈ lw_all := lw_g (lw_at lw_m5 125 rfl) rfl
theorem q1138 : (Jvm.Cond.soleField "PollAuditModel" "votes") ∈ lw_all := lw_g (lw_at lw_m5 126 rfl) rfl
theorem q1139 : (Jvm.Cond.lays "PollAuditModel" "PollAuditModel" "candidates" "I") ∈ lw_all := lw_g (lw_at lw_m5 127 rfl) rfl
theorem q1140 : (Jvm.Cond.soleField "PollAuditModel" "candidates") ∈ lw_all := lw_g (lw_at lw_m5 128 rfl) rfl
theorem q1141 : (Jvm.Cond.lays "PollAuditModel" "PollAuditModel" "win" "I") ∈ lw_all := lw_g (lw_at lw_m5 129 rfl) rfl
theorem q1142 : (Jvm.Cond.soleField "PollAuditModel" "win") ∈ lw_all := lw_g (lw_at lw_m5 130 rfl) rfl
theorem q1143 : (Jvm.Cond.lays "PollAuditModel" "PollAuditModel" "cap" "I") ∈ lw_all := lw_g (lw_at lw_m5 131 rfl) rfl
theorem q1144 : (Jvm.Cond.soleField "PollAuditModel" "cap") ∈ lw_all := lw_g (lw_at lw_m5 132 rfl) rfl
theorem q1145 : (Jvm.Cond.laysFinal "PollAuditModel" "PollAuditModel" "batchFrom" "[I") ∈ lw_all := lw_g (lw_at lw_m5 133 rfl) rfl
theorem q1146 : (Jvm.Cond.soleField "PollAuditModel" "batchFrom") ∈ lw_all := lw_g (lw_at lw_m5 134 rfl) rfl
theorem q1147 : (Jvm.Cond.lays "PollAuditModel" "PollAuditModel" "batches" "I") ∈ lw_all := lw_g (lw_at lw_m5 135 rfl) rfl
theorem q1148 : (Jvm.Cond.soleField "PollAuditModel" "batches") ∈ lw_all := lw_g (lw_at lw_m5 136 rfl) rfl
theorem q1149 : (Jvm.Cond.lays "PollAuditModel" "PollAuditModel" "ballots" "I") ∈ lw_all := lw_g (lw_at lw_m5 137 rfl) rfl
theorem q1150 : (Jvm.Cond.soleField "PollAuditModel" "ballots") ∈ lw_all := lw_g (lw_at lw_m5 138 rfl) rfl
theorem q1151 : (Jvm.Cond.laysFinal "PollAuditModel" "PollAuditModel" "records" "[B") ∈ lw_all := lw_g (lw_at lw_m5 139 rfl) rfl
theorem q1152 : (Jvm.Cond.soleField "PollAuditModel" "records") ∈ lw_all := lw_g (lw_at lw_m5 140 rfl) rfl
theorem q1153 : (Jvm.Cond.lays "PollAuditModel" "PollAuditModel" "limitUp" "I") ∈ lw_all := lw_g (lw_at lw_m5 141 rfl) rfl
theorem q1154 : (Jvm.Cond.soleField "PollAuditModel" "limitUp") ∈ lw_all := lw_g (lw_at lw_m5 142 rfl) rfl
theorem q1155 : (Jvm.Cond.lays "PollAuditModel" "PollAuditModel" "limitLow" "I") ∈ lw_all := lw_g (lw_at lw_m5 143 rfl) rfl
theorem q1156 : (Jvm.Cond.soleField "PollAuditModel" "limitLow") ∈ lw_all := lw_g (lw_at lw_m5 144 rfl) rfl
theorem q1157 : (Jvm.Cond.lays "PollAuditModel" "PollAuditModel" "gammaUp" "I") ∈ lw_all := lw_g (lw_at lw_m5 145 rfl) rfl
theorem q1158 : (Jvm.Cond.soleField "PollAuditModel" "gammaUp") ∈ lw_all := lw_g (lw_at lw_m5 146 rfl) rfl
theorem q1159 : (Jvm.Cond.lays "PollAuditModel" "PollAuditModel" "gammaLow" "I") ∈ lw_all := lw_g (lw_at lw_m5 147 rfl) rfl
theorem q1160 : (Jvm.Cond.soleField "PollAuditModel" "gammaLow") ∈ lw_all := lw_g (lw_at lw_m5 148 rfl) rfl
theorem q1161 : (Jvm.Cond.laysFinal "PollAuditModel" "PollAuditModel" "seed" "[I") ∈ lw_all := lw_g (lw_at lw_m5 149 rfl) rfl
theorem q1162 : (Jvm.Cond.soleField "PollAuditModel" "seed") ∈ lw_all := lw_g (lw_at lw_m5 150 rfl) rfl
theorem q1163 : (Jvm.Cond.lays "PollAuditModel" "PollAuditModel" "digits" "I") ∈ lw_all := lw_g (lw_at lw_m5 151 rfl) rfl
theorem q1164 : (Jvm.Cond.soleField "PollAuditModel" "digits") ∈ lw_all := lw_g (lw_at lw_m5 152 rfl) rfl
theorem q1165 : (Jvm.Cond.laysFinal "PollAuditModel" "PollAuditModel" "coins" "[B") ∈ lw_all := lw_g (lw_at lw_m5 153 rfl) rfl
theorem q1166 : (Jvm.Cond.soleField "PollAuditModel" "coins") ∈ lw_all := lw_g (lw_at lw_m5 154 rfl) rfl
theorem q1167 : (Jvm.Cond.lays "PollAuditModel" "PollAuditModel" "coinCount" "I") ∈ lw_all := lw_g (lw_at lw_m5 155 rfl) rfl
theorem q1168 : (Jvm.Cond.soleField "PollAuditModel" "coinCount") ∈ lw_all := lw_g (lw_at lw_m5 156 rfl) rfl
theorem q1169 : (Jvm.Cond.lays "PollAuditModel" "PollAuditModel" "stage" "I") ∈ lw_all := lw_g (lw_at lw_m5 157 rfl) rfl
theorem q1170 : (Jvm.Cond.soleField "PollAuditModel" "stage") ∈ lw_all := lw_g (lw_at lw_m5 158 rfl) rfl
theorem q1171 : (Jvm.Cond.lays "PollAuditModel" "PollAuditModel" "comparing" "Z") ∈ lw_all := lw_g (lw_at lw_m5 159 rfl) rfl
theorem q1172 : (Jvm.Cond.soleField "PollAuditModel" "comparing") ∈ lw_all := lw_g (lw_at lw_m5 160 rfl) rfl
theorem q1173 : (Jvm.Cond.lays "PollAuditModel" "PollAuditModel" "seeded" "Z") ∈ lw_all := lw_g (lw_at lw_m5 161 rfl) rfl
theorem q1174 : (Jvm.Cond.soleField "PollAuditModel" "seeded") ∈ lw_all := lw_g (lw_at lw_m5 162 rfl) rfl
theorem q1175 : (Jvm.Cond.laysFinal "PollAuditModel" "PollAuditModel" "winner" "[Z") ∈ lw_all := lw_g (lw_at lw_m5 163 rfl) rfl
theorem q1176 : (Jvm.Cond.soleField "PollAuditModel" "winner") ∈ lw_all := lw_g (lw_at lw_m5 164 rfl) rfl
theorem q1177 : (Jvm.Cond.laysFinal "PollAuditModel" "PollAuditModel" "pairOf" "[I") ∈ lw_all := lw_g (lw_at lw_m5 165 rfl) rfl
theorem q1178 : (Jvm.Cond.soleField "PollAuditModel" "pairOf") ∈ lw_all := lw_g (lw_at lw_m5 166 rfl) rfl
theorem q1179 : (Jvm.Cond.laysFinal "PollAuditModel" "PollAuditModel" "pairTo" "[I") ∈ lw_all := lw_g (lw_at lw_m5 167 rfl) rfl
theorem q1180 : (Jvm.Cond.soleField "PollAuditModel" "pairTo") ∈ lw_all := lw_g (lw_at lw_m5 168 rfl) rfl
theorem q1181 : (Jvm.Cond.laysFinal "PollAuditModel" "PollAuditModel" "sureWith" "[I") ∈ lw_all := lw_g (lw_at lw_m5 169 rfl) rfl
theorem q1182 : (Jvm.Cond.soleField "PollAuditModel" "sureWith") ∈ lw_all := lw_g (lw_at lw_m5 170 rfl) rfl
theorem q1183 : (Jvm.Cond.lays "PollAuditModel" "PollAuditModel" "pairs" "I") ∈ lw_all := lw_g (lw_at lw_m5 171 rfl) rfl
theorem q1184 : (Jvm.Cond.soleField "PollAuditModel" "pairs") ∈ lw_all := lw_g (lw_at lw_m5 172 rfl) rfl
theorem q1185 : (Jvm.Cond.laysFinal "PollAuditModel" "PollAuditModel" "drawn" "[I") ∈ lw_all := lw_g (lw_at lw_m5 173 rfl) rfl
theorem q1186 : (Jvm.Cond.soleField "PollAuditModel" "drawn") ∈ lw_all := lw_g (lw_at lw_m5 174 rfl) rfl
theorem q1187 : (Jvm.Cond.laysFinal "PollAuditModel" "PollAuditModel" "seen" "[B") ∈ lw_all := lw_g (lw_at lw_m5 175 rfl) rfl
theorem q1188 : (Jvm.Cond.soleField "PollAuditModel" "seen") ∈ lw_all := lw_g (lw_at lw_m5 176 rfl) rfl
theorem q1189 : (Jvm.Cond.laysFinal "PollAuditModel" "PollAuditModel" "times" "[I") ∈ lw_all := lw_g (lw_at lw_m5 177 rfl) rfl
theorem q1190 : (Jvm.Cond.soleField "PollAuditModel" "times") ∈ lw_all := lw_g (lw_at lw_m5 178 rfl) rfl
theorem q1191 : (Jvm.Cond.lays "PollAuditModel" "PollAuditModel" "draws" "I") ∈ lw_all := lw_g (lw_at lw_m5 179 rfl) rfl
theorem q1192 : (Jvm.Cond.soleField "PollAuditModel" "draws") ∈ lw_all := lw_g (lw_at lw_m5 180 rfl) rfl
theorem q1193 : (Jvm.Cond.lays "PollAuditModel" "PollAuditModel" "different" "I") ∈ lw_all := lw_g (lw_at lw_m5 181 rfl) rfl
theorem q1194 : (Jvm.Cond.soleField "PollAuditModel" "different") ∈ lw_all := lw_g (lw_at lw_m5 182 rfl) rfl
theorem q1195 : (Jvm.Cond.lays "PollAuditModel" "PollAuditModel" "blanks" "I") ∈ lw_all := lw_g (lw_at lw_m5 183 rfl) rfl
theorem q1196 : (Jvm.Cond.soleField "PollAuditModel" "blanks") ∈ lw_all := lw_g (lw_at lw_m5 184 rfl) rfl
theorem q1197 : (Jvm.Cond.lays "PollAuditModel" "PollAuditModel" "waiting" "I") ∈ lw_all := lw_g (lw_at lw_m5 185 rfl) rfl
theorem q1198 : (Jvm.Cond.soleField "PollAuditModel" "waiting") ∈ lw_all := lw_g (lw_at lw_m5 186 rfl) rfl
theorem q1199 : (Jvm.Cond.laysFinal "PollAuditModel" "PollAuditModel" "counts" "[I") ∈ lw_all := lw_g (lw_at lw_m5 187 rfl) rfl
theorem q1200 : (Jvm.Cond.soleField "PollAuditModel" "counts") ∈ lw_all := lw_g (lw_at lw_m5 188 rfl) rfl
theorem q1201 : (Jvm.Cond.lays "PollAuditModel" "PollAuditModel" "right" "Z") ∈ lw_all := lw_g (lw_at lw_m5 189 rfl) rfl
theorem q1202 : (Jvm.Cond.soleField "PollAuditModel" "right") ∈ lw_all := lw_g (lw_at lw_m5 190 rfl) rfl
theorem q1203 : (Jvm.Cond.laysFinal "PollAuditModel" "PollAuditModel" "big" "[I") ∈ lw_all := lw_g (lw_at lw_m5 191 rfl) rfl
theorem q1204 : (Jvm.Cond.soleField "PollAuditModel" "big") ∈ lw_all := lw_g (lw_at lw_m5 192 rfl) rfl
theorem q1205 : (Jvm.Cond.laysFinal "PollAuditModel" "PollAuditModel" "size" "[I") ∈ lw_all := lw_g (lw_at lw_m5 193 rfl) rfl
theorem q1206 : (Jvm.Cond.soleField "PollAuditModel" "size") ∈ lw_all := lw_g (lw_at lw_m5 194 rfl) rfl
theorem q1207 : (Jvm.Cond.laysFinal "PollAuditModel" "PollAuditModel" "odds" "[I") ∈ lw_all := lw_g (lw_at lw_m5 195 rfl) rfl
theorem q1208 : (Jvm.Cond.soleField "PollAuditModel" "odds") ∈ lw_all := lw_g (lw_at lw_m5 196 rfl) rfl
theorem q1209 : (Jvm.Cond.laysFinal "PollAuditModel" "PollAuditModel" "next" "[I") ∈ lw_all := lw_g (lw_at lw_m5 197 rfl) rfl
theorem q1210 : (Jvm.Cond.soleField "PollAuditModel" "next") ∈ lw_all := lw_g (lw_at lw_m5 198 rfl) rfl
theorem q1211 : (Jvm.Cond.laysFinal "PollAuditModel" "PollAuditModel" "k" "[I") ∈ lw_all := lw_g (lw_at lw_m5 199 rfl) rfl
theorem q1212 : (Jvm.Cond.soleField "PollAuditModel" "k") ∈ lw_all := lw_g (lw_at lw_m5 200 rfl) rfl
theorem q1213 : (Jvm.Cond.laysFinal "PollAuditModel" "PollAuditModel" "first" "[I") ∈ lw_all := lw_g (lw_at lw_m5 201 rfl) rfl
theorem q1214 : (Jvm.Cond.soleField "PollAuditModel" "first") ∈ lw_all := lw_g (lw_at lw_m5 202 rfl) rfl
theorem q1215 : (Jvm.Cond.laysFinal "PollAuditModel" "PollAuditModel" "w" "[I") ∈ lw_all := lw_g (lw_at lw_m5 203 rfl) rfl
theorem q1216 : (Jvm.Cond.soleField "PollAuditModel" "w") ∈ lw_all := lw_g (lw_at lw_m5 204 rfl) rfl
theorem q1217 : (Jvm.Cond.laysFinal "PollAuditModel" "PollAuditModel" "state" "[I") ∈ lw_all := lw_g (lw_at lw_m5 205 rfl) rfl
theorem q1218 : (Jvm.Cond.soleField "PollAuditModel" "state") ∈ lw_all := lw_g (lw_at lw_m5 206 rfl) rfl
theorem q1219 : (Jvm.Cond.laysFinal "PollAuditModel" "PollAuditModel" "message" "[I") ∈ lw_all := lw_g (lw_at lw_m5 207 rfl) rfl
theorem q1220 : (Jvm.Cond.soleField "PollAuditModel" "message") ∈ lw_all := lw_g (lw_at lw_m5 208 rfl) rfl
theorem q1221 : (Jvm.Cond.laysFinal "PollAuditModel" "PollAuditModel" "digest" "[I") ∈ lw_all := lw_g (lw_at lw_m5 209 rfl) rfl
theorem q1222 : (Jvm.Cond.soleField "PollAuditModel" "digest") ∈ lw_all := lw_g (lw_at lw_m5 210 rfl) rfl
theorem q1223 : (Jvm.Cond.laysFinal "PollAuditModel" "PollAuditModel" "sure" "[Z") ∈ lw_all := lw_g (lw_at lw_m5 211 rfl) rfl
theorem q1224 : (Jvm.Cond.soleField "PollAuditModel" "sure") ∈ lw_all := lw_g (lw_at lw_m5 212 rfl) rfl
theorem q1225 : (Jvm.Cond.superclass "PollAuditModel" "java/lang/Object") ∈ lw_all := lw_g (lw_at lw_m5 213 rfl) rfl
theorem q1227 : (Jvm.Cond.instanceMethod ({ cls := "PollAuditModel", name := "candidate", desc := "(I)I" } : Jvm.MethodName)) ∈ lw_all := lw_g (lw_at lw_m5 215 rfl) rfl
theorem q1228 : (Jvm.Cond.selects "PollAuditModel" ({ cls := "PollAuditModel", name := "candidate", desc := "(I)I" } : Jvm.MethodName) ({ cls := "PollAuditModel", name := "candidate", desc := "(I)I" } : Jvm.MethodName)) ∈ lw_all := lw_g (lw_at lw_m5 216 rfl) rfl
theorem q1229 : (Jvm.Cond.code ({ cls := "PollAuditModel", name := "candidate", desc := "(I)I" } : Jvm.MethodName) prog_13_method_19_code (2 : Nat) (Option.some Jvm.ClassFile.FieldType.int)) ∈ lw_all := lw_g (lw_at lw_m5 217 rfl) rfl
theorem q1230 : (Jvm.Cond.constant "PollAuditModel" (230 : Nat) (1000000 : Int32)) ∈ lw_all := lw_g (lw_at lw_m5 218 rfl) rfl
theorem q1232 : (Jvm.Cond.instanceMethod ({ cls := "PollAuditModel", name := "batch", desc := "(I)I" } : Jvm.MethodName)) ∈ lw_all := lw_g (lw_at lw_m5 220 rfl) rfl
theorem q1233 : (Jvm.Cond.selects "PollAuditModel" ({ cls := "PollAuditModel", name := "batch", desc := "(I)I" } : Jvm.MethodName) ({ cls := "PollAuditModel", name := "batch", desc := "(I)I" } : Jvm.MethodName)) ∈ lw_all := lw_g (lw_at lw_m5 221 rfl) rfl
theorem q1234 : (Jvm.Cond.code ({ cls := "PollAuditModel", name := "batch", desc := "(I)I" } : Jvm.MethodName) prog_13_method_20_code (3 : Nat) (Option.some Jvm.ClassFile.FieldType.int)) ∈ lw_all := lw_g (lw_at lw_m5 222 rfl) rfl
theorem q1236 : (Jvm.Cond.instanceMethod ({ cls := "PollAuditModel", name := "set", desc := "(II)I" } : Jvm.MethodName)) ∈ lw_all := lw_g (lw_at lw_m5 224 rfl) rfl
theorem q1237 : (Jvm.Cond.selects "PollAuditModel" ({ cls := "PollAuditModel", name := "set", desc := "(II)I" } : Jvm.MethodName) ({ cls := "PollAuditModel", name := "set", desc := "(II)I" } : Jvm.MethodName)) ∈ lw_all := lw_g (lw_at lw_m5 225 rfl) rfl
theorem q1238 : (Jvm.Cond.code ({ cls := "PollAuditModel", name := "set", desc := "(II)I" } : Jvm.MethodName) prog_13_method_21_code (4 : Nat) (Option.some Jvm.ClassFile.FieldType.int)) ∈ lw_all := lw_g (lw_at lw_m5 226 rfl) rfl
theorem q1240 : (Jvm.Cond.instanceMethod ({ cls := "PollAuditModel", name := "fraction", desc := "(III)V" } : Jvm.MethodName)) ∈ lw_all := lw_g (lw_at lw_m5 228 rfl) rfl
theorem q1241 : (Jvm.Cond.selects "PollAuditModel" ({ cls := "PollAuditModel", name := "fraction", desc := "(III)V" } : Jvm.MethodName) ({ cls := "PollAuditModel", name := "fraction", desc := "(III)V" } : Jvm.MethodName)) ∈ lw_all := lw_g (lw_at lw_m5 229 rfl) rfl
theorem q1242 : (Jvm.Cond.code ({ cls := "PollAuditModel", name := "fraction", desc := "(III)V" } : Jvm.MethodName) prog_13_method_22_code (5 : Nat) (Option.none : Option Jvm.ClassFile.FieldType)) ∈ lw_all := lw_g (lw_at lw_m5 230 rfl) rfl
theorem q1244 : (Jvm.Cond.instanceMethod ({ cls := "PollAuditModel", name := "record", desc := "(III)V" } : Jvm.MethodName)) ∈ lw_all := lw_g (lw_at lw_m5 232 rfl) rfl
theorem q1245 : (Jvm.Cond.selects "PollAuditModel" ({ cls := "PollAuditModel", name := "record", desc := "(III)V" } : Jvm.MethodName) ({ cls := "PollAuditModel", name := "record", desc := "(III)V" } : Jvm.MethodName)) ∈ lw_all := lw_g (lw_at lw_m5 233 rfl) rfl
theorem q1246 : (Jvm.Cond.code ({ cls := "PollAuditModel", name := "record", desc := "(III)V" } : Jvm.MethodName) prog_13_method_24_code (5 : Nat) (Option.none : Option Jvm.ClassFile.FieldType)) ∈ lw_all := lw_g (lw_at lw_m5 234 rfl) rfl
theorem q1247 : (Jvm.Cond.methodLink "PollAuditModel" (243 : Nat) ({ cls := "PollAuditModel", name := "isVote", desc := "(I)Z" } : Jvm.MethodName)) ∈ lw_all := lw_g (lw_at lw_m5 235 rfl) rfl
theorem q1248 : (Jvm.Cond.privateMethod ({ cls := "PollAuditModel", name := "isVote", desc := "(I)Z" } : Jvm.MethodName)) ∈ lw_tbl := lw_at lw_m5 236 rfl
theorem q1249 : (Jvm.Cond.instanceMethod ({ cls := "PollAuditModel", name := "isVote", desc := "(I)Z" } : Jvm.MethodName)) ∈ lw_all := lw_g (lw_at lw_m5 237 rfl) rfl
theorem q1250 : (Jvm.Cond.code ({ cls := "PollAuditModel", name := "isVote", desc := "(I)Z" } : Jvm.MethodName) prog_13_method_23_code (2 : Nat) (Option.some Jvm.ClassFile.FieldType.boolean)) ∈ lw_all := lw_g (lw_at lw_m5 238 rfl) rfl
theorem q1252 : (Jvm.Cond.instanceMethod ({ cls := "PollAuditModel", name := "digit", desc := "(I)I" } : Jvm.MethodName)) ∈ lw_all := lw_g (lw_at lw_m6 0 rfl) rfl
theorem q1253 : (Jvm.Cond.selects "PollAuditModel" ({ cls := "PollAuditModel", name := "digit", desc := "(I)I" } : Jvm.MethodName) ({ cls := "PollAuditModel", name := "digit", desc := "(I)I" } : Jvm.MethodName)) ∈ lw_all := lw_g (lw_at lw_m6 1 rfl) rfl
theorem q1254 : (Jvm.Cond.code ({ cls := "PollAuditModel", name := "digit", desc := "(I)I" } : Jvm.MethodName) prog_13_method_25_code (2 : Nat) (Option.some Jvm.ClassFile.FieldType.int)) ∈ lw_all := lw_g (lw_at lw_m6 2 rfl) rfl
theorem q1256 : (Jvm.Cond.instanceMethod ({ cls := "PollAuditModel", name := "coins", desc := "(II)I" } : Jvm.MethodName)) ∈ lw_all := lw_g (lw_at lw_m6 4 rfl) rfl
theorem q1257 : (Jvm.Cond.selects "PollAuditModel" ({ cls := "PollAuditModel", name := "coins", desc := "(II)I" } : Jvm.MethodName) ({ cls := "PollAuditModel", name := "coins", desc := "(II)I" } : Jvm.MethodName)) ∈ lw_all := lw_g (lw_at lw_m6 5 rfl) rfl
theorem q1258 : (Jvm.Cond.code ({ cls := "PollAuditModel", name := "coins", desc := "(II)I" } : Jvm.MethodName) prog_13_method_26_code (4 : Nat) (Option.some Jvm.ClassFile.FieldType.int)) ∈ lw_all := lw_g (lw_at lw_m6 6 rfl) rfl
theorem q1260 : (Jvm.Cond.instanceMethod ({ cls := "PollAuditModel", name := "start", desc := "(ZZ)V" } : Jvm.MethodName)) ∈ lw_all := lw_g (lw_at lw_m6 8 rfl) rfl
theorem q1261 : (Jvm.Cond.selects "PollAuditModel" ({ cls := "PollAuditModel", name := "start", desc := "(ZZ)V" } : Jvm.MethodName) ({ cls := "PollAuditModel", name := "start", desc := "(ZZ)V" } : Jvm.MethodName)) ∈ lw_all := lw_g (lw_at lw_m6 9 rfl) rfl
theorem q1262 : (Jvm.Cond.code ({ cls := "PollAuditModel", name := "start", desc := "(ZZ)V" } : Jvm.MethodName) prog_13_method_30_code (5 : Nat) (Option.none : Option Jvm.ClassFile.FieldType)) ∈ lw_all := lw_g (lw_at lw_m6 10 rfl) rfl
theorem q1263 : (Jvm.Cond.methodLink "PollAuditModel" (253 : Nat) ({ cls := "PollAuditModel", name := "choose", desc := "()Z" } : Jvm.MethodName)) ∈ lw_all := lw_g (lw_at lw_m6 11 rfl) rfl
theorem q1264 : (Jvm.Cond.privateMethod ({ cls := "PollAuditModel", name := "choose", desc := "()Z" } : Jvm.MethodName)) ∈ lw_tbl := lw_at lw_m6 12 rfl
theorem q1265 : (Jvm.Cond.instanceMethod ({ cls := "PollAuditModel", name := "choose", desc := "()Z" } : Jvm.MethodName)) ∈ lw_all := lw_g (lw_at lw_m6 13 rfl) rfl
theorem q1266 : (Jvm.Cond.code ({ cls := "PollAuditModel", name := "choose", desc := "()Z" } : Jvm.MethodName) prog_13_method_27_code (5 : Nat) (Option.some Jvm.ClassFile.FieldType.boolean)) ∈ lw_all := lw_g (lw_at lw_m6 14 rfl) rfl
theorem q1267 : (Jvm.Cond.methodLink "PollAuditModel" (264 : Nat) ({ cls := "PollAuditModel", name := "pairUp", desc := "()V" } : Jvm.MethodName)) ∈ lw_all := lw_g (lw_at lw_m6 15 rfl) rfl
theorem q1268 : (Jvm.Cond.privateMethod ({ cls := "PollAuditModel", name := "pairUp", desc := "()V" } : Jvm.MethodName)) ∈ lw_tbl := lw_at lw_m6 16 rfl
theorem q1269 : (Jvm.Cond.instanceMethod ({ cls := "PollAuditModel", name := "pairUp", desc := "()V" } : Jvm.MethodName)) ∈ lw_all := lw_g (lw_at lw_m6 17 rfl) rfl
theorem q1270 : (Jvm.Cond.code ({ cls := "PollAuditModel", name := "pairUp", desc := "()V" } : Jvm.MethodName) prog_13_method_28_code (3 : Nat) (Option.none : Option Jvm.ClassFile.FieldType)) ∈ lw_all := lw_g (lw_at lw_m6 18 rfl) rfl
theorem q1272 : (Jvm.Cond.instanceMethod ({ cls := "PollAuditModel", name := "draw", desc := "()I" } : Jvm.MethodName)) ∈ lw_all := lw_g (lw_at lw_m6 20 rfl) rfl
theorem q1273 : (Jvm.Cond.selects "PollAuditModel" ({ cls := "PollAuditModel", name := "draw", desc := "()I" } : Jvm.MethodName) ({ cls := "PollAuditModel", name := "draw", desc := "()I" } : Jvm.MethodName)) ∈ lw_all := lw_g (lw_at lw_m6 21 rfl) rfl
theorem q1274 : (Jvm.Cond.code ({ cls := "PollAuditModel", name := "draw", desc := "()I" } : Jvm.MethodName) prog_13_method_37_code (2 : Nat) (Option.some Jvm.ClassFile.FieldType.int)) ∈ lw_all := lw_g (lw_at lw_m6 22 rfl) rfl
theorem q1275 : (Jvm.Cond.methodLink "PollAuditModel" (299 : Nat) ({ cls := "PollAuditModel", name := "number", desc := "()I" } : Jvm.MethodName)) ∈ lw_all := lw_g (lw_at lw_m6 23 rfl) rfl
theorem q1276 : (Jvm.Cond.privateMethod ({ cls := "PollAuditModel", name := "number", desc := "()I" } : Jvm.MethodName)) ∈ lw_tbl := lw_at lw_m6 24 rfl
theorem q1277 : (Jvm.Cond.instanceMethod ({ cls := "PollAuditModel", name := "number", desc := "()I" } : Jvm.MethodName)) ∈ lw_all := lw_g (lw_at lw_m6 25 rfl) rfl
theorem q1278 : (Jvm.Cond.code ({ cls := "PollAuditModel", name := "number", desc := "()I" } : Jvm.MethodName) prog_13_method_36_code (4 : Nat) (Option.some Jvm.ClassFile.FieldType.int)) ∈ lw_all := lw_g (lw_at lw_m6 26 rfl) rfl
theorem q1279 : (Jvm.Cond.methodLink "PollAuditModel" (291 : Nat) ({ cls := "PollAuditModel", name := "digestOf", desc := "(I)V" } : Jvm.MethodName)) ∈ lw_all := lw_g (lw_at lw_m6 27 rfl) rfl
theorem q1280 : (Jvm.Cond.privateMethod ({ cls := "PollAuditModel", name := "digestOf", desc := "(I)V" } : Jvm.MethodName)) ∈ lw_tbl := lw_at lw_m6 28 rfl
theorem q1281 : (Jvm.Cond.instanceMethod ({ cls := "PollAuditModel", name := "digestOf", desc := "(I)V" } : Jvm.MethodName)) ∈ lw_all := lw_g (lw_at lw_m6 29 rfl) rfl
theorem q1282 : (Jvm.Cond.code ({ cls := "PollAuditModel", name := "digestOf", desc := "(I)V" } : Jvm.MethodName) prog_13_method_17_code (7 : Nat) (Option.none : Option Jvm.ClassFile.FieldType)) ∈ lw_all := lw_g (lw_at lw_m6 30 rfl) rfl
theorem q1283 : (Jvm.Cond.constant "PollAuditModel" (223 : Nat) (1000000000 : Int32)) ∈ lw_all := lw_g (lw_at lw_m6 31 rfl) rfl
theorem q1284 : (Jvm.Cond.methodLink "PollAuditModel" (224 : Nat) ({ cls := "PollAuditModel", name := "turned", desc := "(II)I" } : Jvm.MethodName)) ∈ lw_all := lw_g (lw_at lw_m6 32 rfl) rfl
theorem q1285 : (Jvm.Cond.privateMethod ({ cls := "PollAuditModel", name := "turned", desc := "(II)I" } : Jvm.MethodName)) ∈ lw_tbl := lw_at lw_m6 33 rfl
theorem q1286 : (Jvm.Cond.instanceMethod ({ cls := "PollAuditModel", name := "turned", desc := "(II)I" } : Jvm.MethodName)) ∈ lw_all := lw_g (lw_at lw_m6 34 rfl) rfl
theorem q1287 : (Jvm.Cond.code ({ cls := "PollAuditModel", name := "turned", desc := "(II)I" } : Jvm.MethodName) prog_13_method_16_code (3 : Nat) (Option.some Jvm.ClassFile.FieldType.int)) ∈ lw_all := lw_g (lw_at lw_m6 35 rfl) rfl
theorem q1288 : (Jvm.Cond.methodLink "PollAuditModel" (227 : Nat) ({ cls := "PollAuditModel", name := "round", desc := "(I)V" } : Jvm.MethodName)) ∈ lw_all := lw_g (lw_at lw_m6 36 rfl) rfl
theorem q1289 : (Jvm.Cond.privateMethod ({ cls := "PollAuditModel", name := "round", desc := "(I)V" } : Jvm.MethodName)) ∈ lw_tbl := lw_at lw_m6 37 rfl
theorem q1290 : (Jvm.Cond.instanceMethod ({ cls := "PollAuditModel", name := "round", desc := "(I)V" } : Jvm.MethodName)) ∈ lw_all := lw_g (lw_at lw_m6 38 rfl) rfl
theorem q1291 : (Jvm.Cond.code ({ cls := "PollAuditModel", name := "round", desc := "(I)V" } : Jvm.MethodName) prog_13_method_18_code (7 : Nat) (Option.none : Option Jvm.ClassFile.FieldType)) ∈ lw_all := lw_g (lw_at lw_m6 39 rfl) rfl
theorem q1292 : (Jvm.Cond.constantLong "PollAuditModel" (294 : Nat) (256 : Int64)) ∈ lw_all := lw_g (lw_at lw_m6 40 rfl) rfl
theorem q1293 : (Jvm.Cond.methodLink "PollAuditModel" (296 : Nat) ({ cls := "PollAuditModel", name := "coinsADraw", desc := "()I" } : Jvm.MethodName)) ∈ lw_all := lw_g (lw_at lw_m6 41 rfl) rfl
theorem q1294 : (Jvm.Cond.privateMethod ({ cls := "PollAuditModel", name := "coinsADraw", desc := "()I" } : Jvm.MethodName)) ∈ lw_tbl := lw_at lw_m6 42 rfl
theorem q1295 : (Jvm.Cond.instanceMethod ({ cls := "PollAuditModel", name := "coinsADraw", desc := "()I" } : Jvm.MethodName)) ∈ lw_all := lw_g (lw_at lw_m6 43 rfl) rfl
theorem q1296 : (Jvm.Cond.code ({ cls := "PollAuditModel", name := "coinsADraw", desc := "()I" } : Jvm.MethodName) prog_13_method_29_code (2 : Nat) (Option.some Jvm.ClassFile.FieldType.int)) ∈ lw_all := lw_g (lw_at lw_m6 44 rfl) rfl
theorem q1297 : (Jvm.Cond.methodLink "PollAuditModel" (305 : Nat) ({ cls := "PollAuditModel", name := "count", desc := "(I)V" } : Jvm.MethodName)) ∈ lw_all := lw_g (lw_at lw_m6 45 rfl) rfl
theorem q1298 : (Jvm.Cond.privateMethod ({ cls := "PollAuditModel", name := "count", desc := "(I)V" } : Jvm.MethodName)) ∈ lw_tbl := lw_at lw_m6 46 rfl
theorem q1299 : (Jvm.Cond.instanceMethod ({ cls := "PollAuditModel", name := "count", desc := "(I)V" } : Jvm.MethodName)) ∈ lw_all := lw_g (lw_at lw_m6 47 rfl) rfl
theorem q1300 : (Jvm.Cond.code ({ cls := "PollAuditModel", name := "count", desc := "(I)V" } : Jvm.MethodName) prog_13_method_35_code (5 : Nat) (Option.none : Option Jvm.ClassFile.FieldType)) ∈ lw_all := lw_g (lw_at lw_m6 48 rfl) rfl
theorem q1301 : (Jvm.Cond.methodLink "PollAuditModel" (281 : Nat) ({ cls := "PollAuditModel", name := "factor", desc := "(I)V" } : Jvm.MethodName)) ∈ lw_all := lw_g (lw_at lw_m6 49 rfl) rfl
theorem q1302 : (Jvm.Cond.privateMethod ({ cls := "PollAuditModel", name := "factor", desc := "(I)V" } : Jvm.MethodName)) ∈ lw_tbl := lw_at lw_m6 50 rfl
theorem q1303 : (Jvm.Cond.instanceMethod ({ cls := "PollAuditModel", name := "factor", desc := "(I)V" } : Jvm.MethodName)) ∈ lw_all := lw_g (lw_at lw_m6 51 rfl) rfl
theorem q1304 : (Jvm.Cond.code ({ cls := "PollAuditModel", name := "factor", desc := "(I)V" } : Jvm.MethodName) prog_13_method_34_code (10 : Nat) (Option.none : Option Jvm.ClassFile.FieldType)) ∈ lw_all := lw_g (lw_at lw_m6 52 rfl) rfl
theorem q1305 : (Jvm.Cond.methodLink "PollAuditModel" (274 : Nat) ({ cls := "PollAuditModel", name := "isFor", desc := "(II)I" } : Jvm.MethodName)) ∈ lw_all := lw_g (lw_at lw_m6 53 rfl) rfl
theorem q1306 : (Jvm.Cond.privateMethod ({ cls := "PollAuditModel", name := "isFor", desc := "(II)I" } : Jvm.MethodName)) ∈ lw_tbl := lw_at lw_m6 54 rfl
theorem q1307 : (Jvm.Cond.instanceMethod ({ cls := "PollAuditModel", name := "isFor", desc := "(II)I" } : Jvm.MethodName)) ∈ lw_all := lw_g (lw_at lw_m6 55 rfl) rfl
theorem q1308 : (Jvm.Cond.code ({ cls := "PollAuditModel", name := "isFor", desc := "(II)I" } : Jvm.MethodName) prog_13_method_33_code (3 : Nat) (Option.some Jvm.ClassFile.FieldType.int)) ∈ lw_all := lw_g (lw_at lw_m6 56 rfl) rfl
theorem q1309 : (Jvm.Cond.methodLink "PollAuditModel" (277 : Nat) ({ cls := "PollAuditModel", name := "margin", desc := "()I" } : Jvm.MethodName)) ∈ lw_all := lw_g (lw_at lw_m6 57 rfl) rfl
theorem q1310 : (Jvm.Cond.privateMethod ({ cls := "PollAuditModel", name := "margin", desc := "()I" } : Jvm.MethodName)) ∈ lw_tbl := lw_at lw_m6 58 rfl
theorem q1311 : (Jvm.Cond.instanceMethod ({ cls := "PollAuditModel", name := "margin", desc := "()I" } : Jvm.MethodName)) ∈ lw_all := lw_g (lw_at lw_m6 59 rfl) rfl
theorem q1312 : (Jvm.Cond.code ({ cls := "PollAuditModel", name := "margin", desc := "()I" } : Jvm.MethodName) prog_13_method_31_code (4 : Nat) (Option.some Jvm.ClassFile.FieldType.int)) ∈ lw_all := lw_g (lw_at lw_m6 60 rfl) rfl
theorem q1313 : (Jvm.Cond.constant "PollAuditModel" (267 : Nat) (1000001 : Int32)) ∈ lw_all := lw_g (lw_at lw_m6 61 rfl) rfl
theorem q1314 : (Jvm.Cond.constantLong "PollAuditModel" (268 : Nat) (2 : Int64)) ∈ lw_all := lw_g (lw_at lw_m6 62 rfl) rfl
theorem q1315 : (Jvm.Cond.methodLink "PollAuditModel" (192 : Nat) ({ cls := "PollAuditModel", name := "times", desc := "(IJ)V" } : Jvm.MethodName)) ∈ lw_all := lw_g (lw_at lw_m6 63 rfl) rfl
theorem q1316 : (Jvm.Cond.privateMethod ({ cls := "PollAuditModel", name := "times", desc := "(IJ)V" } : Jvm.MethodName)) ∈ lw_tbl := lw_at lw_m6 64 rfl
theorem q1317 : (Jvm.Cond.instanceMethod ({ cls := "PollAuditModel", name := "times", desc := "(IJ)V" } : Jvm.MethodName)) ∈ lw_all := lw_g (lw_at lw_m6 65 rfl) rfl
theorem q1318 : (Jvm.Cond.code ({ cls := "PollAuditModel", name := "times", desc := "(IJ)V" } : Jvm.MethodName) prog_13_method_6_code (7 : Nat) (Option.none : Option Jvm.ClassFile.FieldType)) ∈ lw_all := lw_g (lw_at lw_m6 66 rfl) rfl
theorem q1319 : (Jvm.Cond.methodLink "PollAuditModel" (188 : Nat) ({ cls := "PollAuditModel", name := "trim", desc := "(I)V" } : Jvm.MethodName)) ∈ lw_all := lw_g (lw_at lw_m6 67 rfl) rfl
theorem q1320 : (Jvm.Cond.privateMethod ({ cls := "PollAuditModel", name := "trim", desc := "(I)V" } : Jvm.MethodName)) ∈ lw_tbl := lw_at lw_m6 68 rfl
theorem q1321 : (Jvm.Cond.instanceMethod ({ cls := "PollAuditModel", name := "trim", desc := "(I)V" } : Jvm.MethodName)) ∈ lw_all := lw_g (lw_at lw_m6 69 rfl) rfl
theorem q1322 : (Jvm.Cond.code ({ cls := "PollAuditModel", name := "trim", desc := "(I)V" } : Jvm.MethodName) prog_13_method_3_code (2 : Nat) (Option.none : Option Jvm.ClassFile.FieldType)) ∈ lw_all := lw_g (lw_at lw_m6 70 rfl) rfl
theorem q1323 : (Jvm.Cond.methodLink "PollAuditModel" (195 : Nat) ({ cls := "PollAuditModel", name := "copy", desc := "(II)V" } : Jvm.MethodName)) ∈ lw_all := lw_g (lw_at lw_m6 71 rfl) rfl
theorem q1324 : (Jvm.Cond.privateMethod ({ cls := "PollAuditModel", name := "copy", desc := "(II)V" } : Jvm.MethodName)) ∈ lw_tbl := lw_at lw_m6 72 rfl
theorem q1325 : (Jvm.Cond.instanceMethod ({ cls := "PollAuditModel", name := "copy", desc := "(II)V" } : Jvm.MethodName)) ∈ lw_all := lw_g (lw_at lw_m6 73 rfl) rfl
theorem q1326 : (Jvm.Cond.code ({ cls := "PollAuditModel", name := "copy", desc := "(II)V" } : Jvm.MethodName) prog_13_method_5_code (4 : Nat) (Option.none : Option Jvm.ClassFile.FieldType)) ∈ lw_all := lw_g (lw_at lw_m6 74 rfl) rfl
theorem q1327 : (Jvm.Cond.methodLink "PollAuditModel" (203 : Nat) ({ cls := "PollAuditModel", name := "compare", desc := "(II)I" } : Jvm.MethodName)) ∈ lw_all := lw_g (lw_at lw_m6 75 rfl) rfl
theorem q1328 : (Jvm.Cond.privateMethod ({ cls := "PollAuditModel", name := "compare", desc := "(II)I" } : Jvm.MethodName)) ∈ lw_tbl := lw_at lw_m6 76 rfl
theorem q1329 : (Jvm.Cond.instanceMethod ({ cls := "PollAuditModel", name := "compare", desc := "(II)I" } : Jvm.MethodName)) ∈ lw_all := lw_g (lw_at lw_m6 77 rfl) rfl
theorem q1330 : (Jvm.Cond.code ({ cls := "PollAuditModel", name := "compare", desc := "(II)I" } : Jvm.MethodName) prog_13_method_8_code (6 : Nat) (Option.some Jvm.ClassFile.FieldType.int)) ∈ lw_all := lw_g (lw_at lw_m6 78 rfl) rfl
theorem q1331 : (Jvm.Cond.methodLink "PollAuditModel" (284 : Nat) ({ cls := "PollAuditModel", name := "ratio", desc := "(III)V" } : Jvm.MethodName)) ∈ lw_all := lw_g (lw_at lw_m6 79 rfl) rfl
theorem q1332 : (Jvm.Cond.privateMethod ({ cls := "PollAuditModel", name := "ratio", desc := "(III)V" } : Jvm.MethodName)) ∈ lw_tbl := lw_at lw_m6 80 rfl
theorem q1333 : (Jvm.Cond.instanceMethod ({ cls := "PollAuditModel", name := "ratio", desc := "(III)V" } : Jvm.MethodName)) ∈ lw_all := lw_g (lw_at lw_m6 81 rfl) rfl
theorem q1334 : (Jvm.Cond.code ({ cls := "PollAuditModel", name := "ratio", desc := "(III)V" } : Jvm.MethodName) prog_13_method_32_code (6 : Nat) (Option.none : Option Jvm.ClassFile.FieldType)) ∈ lw_all := lw_g (lw_at lw_m6 82 rfl) rfl
theorem q1335 : (Jvm.Cond.methodLink "PollAuditModel" (270 : Nat) ({ cls := "PollAuditModel", name := "power", desc := "(IJI)V" } : Jvm.MethodName)) ∈ lw_all := lw_g (lw_at lw_m6 83 rfl) rfl
theorem q1336 : (Jvm.Cond.privateMethod ({ cls := "PollAuditModel", name := "power", desc := "(IJI)V" } : Jvm.MethodName)) ∈ lw_tbl := lw_at lw_m6 84 rfl
theorem q1337 : (Jvm.Cond.instanceMethod ({ cls := "PollAuditModel", name := "power", desc := "(IJI)V" } : Jvm.MethodName)) ∈ lw_all := lw_g (lw_at lw_m6 85 rfl) rfl
theorem q1338 : (Jvm.Cond.code ({ cls := "PollAuditModel", name := "power", desc := "(IJI)V" } : Jvm.MethodName) prog_13_method_7_code (6 : Nat) (Option.none : Option Jvm.ClassFile.FieldType)) ∈ lw_all := lw_g (lw_at lw_m6 86 rfl) rfl
theorem q1340 : (Jvm.Cond.instanceMethod ({ cls := "PollAuditModel", name := "see", desc := "(I)I" } : Jvm.MethodName)) ∈ lw_all := lw_g (lw_at lw_m6 88 rfl) rfl
theorem q1341 : (Jvm.Cond.selects "PollAuditModel" ({ cls := "PollAuditModel", name := "see", desc := "(I)I" } : Jvm.MethodName) ({ cls := "PollAuditModel", name := "see", desc := "(I)I" } : Jvm.MethodName)) ∈ lw_all := lw_g (lw_at lw_m6 89 rfl) rfl
theorem q1342 : (Jvm.Cond.code ({ cls := "PollAuditModel", name := "see", desc := "(I)I" } : Jvm.MethodName) prog_13_method_38_code (3 : Nat) (Option.some Jvm.ClassFile.FieldType.int)) ∈ lw_all := lw_g (lw_at lw_m6 90 rfl) rfl
theorem q1344 : (Jvm.Cond.instanceMethod ({ cls := "PollAuditModel", name := "counted", desc := "(II)I" } : Jvm.MethodName)) ∈ lw_all := lw_g (lw_at lw_m6 92 rfl) rfl
theorem q1345 : (Jvm.Cond.selects "PollAuditModel" ({ cls := "PollAuditModel", name := "counted", desc := "(II)I" } : Jvm.MethodName) ({ cls := "PollAuditModel", name := "counted", desc := "(II)I" } : Jvm.MethodName)) ∈ lw_all := lw_g (lw_at lw_m6 93 rfl) rfl
theorem q1346 : (Jvm.Cond.code ({ cls := "PollAuditModel", name := "counted", desc := "(II)I" } : Jvm.MethodName) prog_13_method_39_code (5 : Nat) (Option.some Jvm.ClassFile.FieldType.int)) ∈ lw_all := lw_g (lw_at lw_m6 94 rfl) rfl
theorem q1348 : (Jvm.Cond.instanceMethod ({ cls := "PollAuditModel", name := "again", desc := "()V" } : Jvm.MethodName)) ∈ lw_all := lw_g (lw_at lw_m6 96 rfl) rfl
theorem q1349 : (Jvm.Cond.selects "PollAuditModel" ({ cls := "PollAuditModel", name := "again", desc := "()V" } : Jvm.MethodName) ({ cls := "PollAuditModel", name := "again", desc := "()V" } : Jvm.MethodName)) ∈ lw_all := lw_g (lw_at lw_m6 97 rfl) rfl
theorem q1350 : (Jvm.Cond.code ({ cls := "PollAuditModel", name := "again", desc := "()V" } : Jvm.MethodName) prog_13_method_40_code (2 : Nat) (Option.none : Option Jvm.ClassFile.FieldType)) ∈ lw_all := lw_g (lw_at lw_m6 98 rfl) rfl
theorem q1352 : (Jvm.Cond.instanceMethod ({ cls := "PollAuditModel", name := "told", desc := "(I)I" } : Jvm.MethodName)) ∈ lw_all := lw_g (lw_at lw_m6 100 rfl) rfl
theorem q1353 : (Jvm.Cond.selects "PollAuditModel" ({ cls := "PollAuditModel", name := "told", desc := "(I)I" } : Jvm.MethodName) ({ cls := "PollAuditModel", name := "told", desc := "(I)I" } : Jvm.MethodName)) ∈ lw_all := lw_g (lw_at lw_m6 101 rfl) rfl
theorem q1354 : (Jvm.Cond.code ({ cls := "PollAuditModel", name := "told", desc := "(I)I" } : Jvm.MethodName) prog_13_method_41_code (4 : Nat) (Option.some Jvm.ClassFile.FieldType.int)) ∈ lw_all := lw_g (lw_at lw_m6 102 rfl) rfl
theorem q1356 : (Jvm.Cond.instanceMethod ({ cls := "PollAuditModel", name := "of", desc := "(II)I" } : Jvm.MethodName)) ∈ lw_all := lw_g (lw_at lw_m6 104 rfl) rfl
theorem q1357 : (Jvm.Cond.selects "PollAuditModel" ({ cls := "PollAuditModel", name := "of", desc := "(II)I" } : Jvm.MethodName) ({ cls := "PollAuditModel", name := "of", desc := "(II)I" } : Jvm.MethodName)) ∈ lw_all := lw_g (lw_at lw_m6 105 rfl) rfl
theorem q1358 : (Jvm.Cond.code ({ cls := "PollAuditModel", name := "of", desc := "(II)I" } : Jvm.MethodName) prog_13_method_42_code (3 : Nat) (Option.some Jvm.ClassFile.FieldType.int)) ∈ lw_all := lw_g (lw_at lw_m6 106 rfl) rfl
theorem q1360 : (Jvm.Cond.instanceMethod ({ cls := "PollAuditModel", name := "pair", desc := "(II)I" } : Jvm.MethodName)) ∈ lw_all := lw_g (lw_at lw_m6 108 rfl) rfl
theorem q1361 : (Jvm.Cond.selects "PollAuditModel" ({ cls := "PollAuditModel", name := "pair", desc := "(II)I" } : Jvm.MethodName) ({ cls := "PollAuditModel", name := "pair", desc := "(II)I" } : Jvm.MethodName)) ∈ lw_all := lw_g (lw_at lw_m6 109 rfl) rfl
theorem q1362 : (Jvm.Cond.code ({ cls := "PollAuditModel", name := "pair", desc := "(II)I" } : Jvm.MethodName) prog_13_method_43_code (3 : Nat) (Option.some Jvm.ClassFile.FieldType.int)) ∈ lw_all := lw_g (lw_at lw_m6 110 rfl) rfl
theorem q1364 : (Jvm.Cond.instanceMethod ({ cls := "PollAuditModel", name := "ballot", desc := "(II)I" } : Jvm.MethodName)) ∈ lw_all := lw_g (lw_at lw_m6 112 rfl) rfl
theorem q1365 : (Jvm.Cond.selects "PollAuditModel" ({ cls := "PollAuditModel", name := "ballot", desc := "(II)I" } : Jvm.MethodName) ({ cls := "PollAuditModel", name := "ballot", desc := "(II)I" } : Jvm.MethodName)) ∈ lw_all := lw_g (lw_at lw_m6 113 rfl) rfl
theorem q1366 : (Jvm.Cond.code ({ cls := "PollAuditModel", name := "ballot", desc := "(II)I" } : Jvm.MethodName) prog_13_method_44_code (4 : Nat) (Option.some Jvm.ClassFile.FieldType.int)) ∈ lw_all := lw_g (lw_at lw_m6 114 rfl) rfl
theorem q1368 : (Jvm.Cond.instanceMethod ({ cls := "PollAuditModel", name := "digest", desc := "(II)I" } : Jvm.MethodName)) ∈ lw_all := lw_g (lw_at lw_m6 116 rfl) rfl
theorem q1369 : (Jvm.Cond.selects "PollAuditModel" ({ cls := "PollAuditModel", name := "digest", desc := "(II)I" } : Jvm.MethodName) ({ cls := "PollAuditModel", name := "digest", desc := "(II)I" } : Jvm.MethodName)) ∈ lw_all := lw_g (lw_at lw_m6 117 rfl) rfl
theorem q1370 : (Jvm.Cond.code ({ cls := "PollAuditModel", name := "digest", desc := "(II)I" } : Jvm.MethodName) prog_13_method_45_code (3 : Nat) (Option.some Jvm.ClassFile.FieldType.int)) ∈ lw_all := lw_g (lw_at lw_m6 118 rfl) rfl
theorem q1372 : (Jvm.Cond.instanceMethod ({ cls := "PollAuditModel", name := "risk", desc := "(IIIII)I" } : Jvm.MethodName)) ∈ lw_all := lw_g (lw_at lw_m6 120 rfl) rfl
theorem q1373 : (Jvm.Cond.selects "PollAuditModel" ({ cls := "PollAuditModel", name := "risk", desc := "(IIIII)I" } : Jvm.MethodName) ({ cls := "PollAuditModel", name := "risk", desc := "(IIIII)I" } : Jvm.MethodName)) ∈ lw_all := lw_g (lw_at lw_m6 121 rfl) rfl
theorem q1374 : (Jvm.Cond.code ({ cls := "PollAuditModel", name := "risk", desc := "(IIIII)I" } : Jvm.MethodName) prog_13_method_49_code (9 : Nat) (Option.some Jvm.ClassFile.FieldType.int)) ∈ lw_all := lw_g (lw_at lw_m6 122 rfl) rfl
theorem q1375 : (Jvm.Cond.methodLink "PollAuditModel" (321 : Nat) ({ cls := "PollAuditModel", name := "isSure", desc := "(III)Z" } : Jvm.MethodName)) ∈ lw_all := lw_g (lw_at lw_m6 123 rfl) rfl
theorem q1376 : (Jvm.Cond.privateMethod ({ cls := "PollAuditModel", name := "isSure", desc := "(III)Z" } : Jvm.MethodName)) ∈ lw_tbl := lw_at lw_m6 124 rfl
theorem q1377 : (Jvm.Cond.instanceMethod ({ cls := "PollAuditModel", name := "isSure", desc := "(III)Z" } : Jvm.MethodName)) ∈ lw_all := lw_g (lw_at lw_m6 125 rfl) rfl
theorem q1378 : (Jvm.Cond.code ({ cls := "PollAuditModel", name := "isSure", desc := "(III)Z" } : Jvm.MethodName) prog_13_method_46_code (4 : Nat) (Option.some Jvm.ClassFile.FieldType.boolean)) ∈ lw_all := lw_g (lw_at lw_m6 126 rfl) rfl
theorem q1379 : (Jvm.Cond.constant "PollAuditModel" (314 : Nat) (38440 : Int32)) ∈ lw_all := lw_g (lw_at lw_m6 127 rfl) rfl
theorem q1380 : (Jvm.Cond.methodLink "PollAuditModel" (325 : Nat) ({ cls := "PollAuditModel", name := "goOn", desc := "(IIII)V" } : Jvm.MethodName)) ∈ lw_all := lw_g (lw_at lw_m6 128 rfl) rfl
theorem q1381 : (Jvm.Cond.privateMethod ({ cls := "PollAuditModel", name := "goOn", desc := "(IIII)V" } : Jvm.MethodName)) ∈ lw_tbl := lw_at lw_m6 129 rfl
theorem q1382 : (Jvm.Cond.instanceMethod ({ cls := "PollAuditModel", name := "goOn", desc := "(IIII)V" } : Jvm.MethodName)) ∈ lw_all := lw_g (lw_at lw_m6 130 rfl) rfl
theorem q1383 : (Jvm.Cond.code ({ cls := "PollAuditModel", name := "goOn", desc := "(IIII)V" } : Jvm.MethodName) prog_13_method_48_code (9 : Nat) (Option.none : Option Jvm.ClassFile.FieldType)) ∈ lw_all := lw_g (lw_at lw_m6 131 rfl) rfl
theorem q1384 : (Jvm.Cond.methodLink "PollAuditModel" (315 : Nat) ({ cls := "PollAuditModel", name := "pass", desc := "(III)V" } : Jvm.MethodName)) ∈ lw_all := lw_g (lw_at lw_m6 132 rfl) rfl
theorem q1385 : (Jvm.Cond.privateMethod ({ cls := "PollAuditModel", name := "pass", desc := "(III)V" } : Jvm.MethodName)) ∈ lw_tbl := lw_at lw_m6 133 rfl
theorem q1386 : (Jvm.Cond.instanceMethod ({ cls := "PollAuditModel", name := "pass", desc := "(III)V" } : Jvm.MethodName)) ∈ lw_all := lw_g (lw_at lw_m6 134 rfl) rfl
theorem q1387 : (Jvm.Cond.code ({ cls := "PollAuditModel", name := "pass", desc := "(III)V" } : Jvm.MethodName) prog_13_method_47_code (7 : Nat) (Option.none : Option Jvm.ClassFile.FieldType)) ∈ lw_all := lw_g (lw_at lw_m6 135 rfl) rfl
theorem q1388 : (Jvm.Cond.methodLink "PollAuditModel" (318 : Nat) ({ cls := "PollAuditModel", name := "add", desc := "(II)V" } : Jvm.MethodName)) ∈ lw_all := lw_g (lw_at lw_m6 136 rfl) rfl
theorem q1389 : (Jvm.Cond.privateMethod ({ cls := "PollAuditModel", name := "add", desc := "(II)V" } : Jvm.MethodName)) ∈ lw_tbl := lw_at lw_m6 137 rfl
theorem q1390 : (Jvm.Cond.instanceMethod ({ cls := "PollAuditModel", name := "add", desc := "(II)V" } : Jvm.MethodName)) ∈ lw_all := lw_g (lw_at lw_m6 138 rfl) rfl
theorem q1391 : (Jvm.Cond.code ({ cls := "PollAuditModel", name := "add", desc := "(II)V" } : Jvm.MethodName) prog_13_method_9_code (7 : Nat) (Option.none : Option Jvm.ClassFile.FieldType)) ∈ lw_all := lw_g (lw_at lw_m6 139 rfl) rfl
theorem q1392 : (Jvm.Cond.constant "PollAuditModel" (194 : Nat) (65535 : Int32)) ∈ lw_all := lw_g (lw_at lw_m6 140 rfl) rfl
theorem q1393 : (Jvm.Cond.methodLink "PollAuditModel" (329 : Nat) ({ cls := "PollAuditModel", name := "lowest", desc := "()V" } : Jvm.MethodName)) ∈ lw_all := lw_g (lw_at lw_m6 141 rfl) rfl
theorem q1394 : (Jvm.Cond.privateMethod ({ cls := "PollAuditModel", name := "lowest", desc := "()V" } : Jvm.MethodName)) ∈ lw_tbl := lw_at lw_m6 142 rfl
theorem q1395 : (Jvm.Cond.instanceMethod ({ cls := "PollAuditModel", name := "lowest", desc := "()V" } : Jvm.MethodName)) ∈ lw_all := lw_g (lw_at lw_m6 143 rfl) rfl
theorem q1396 : (Jvm.Cond.code ({ cls := "PollAuditModel", name := "lowest", desc := "()V" } : Jvm.MethodName) prog_13_method_15_code (1 : Nat) (Option.none : Option Jvm.ClassFile.FieldType)) ∈ lw_all := lw_g (lw_at lw_m6 144 rfl) rfl
theorem q1397 : (Jvm.Cond.methodLink "PollAuditModel" (214 : Nat) ({ cls := "PollAuditModel", name := "common", desc := "()V" } : Jvm.MethodName)) ∈ lw_all := lw_g (lw_at lw_m6 145 rfl) rfl
theorem q1398 : (Jvm.Cond.privateMethod ({ cls := "PollAuditModel", name := "common", desc := "()V" } : Jvm.MethodName)) ∈ lw_tbl := lw_at lw_m6 146 rfl
theorem q1399 : (Jvm.Cond.instanceMethod ({ cls := "PollAuditModel", name := "common", desc := "()V" } : Jvm.MethodName)) ∈ lw_all := lw_g (lw_at lw_m6 147 rfl) rfl
theorem q1400 : (Jvm.Cond.code ({ cls := "PollAuditModel", name := "common", desc := "()V" } : Jvm.MethodName) prog_13_method_13_code (5 : Nat) (Option.none : Option Jvm.ClassFile.FieldType)) ∈ lw_all := lw_g (lw_at lw_m6 148 rfl) rfl
theorem q1401 : (Jvm.Cond.methodLink "PollAuditModel" (199 : Nat) ({ cls := "PollAuditModel", name := "halve", desc := "(I)I" } : Jvm.MethodName)) ∈ lw_all := lw_g (lw_at lw_m6 149 rfl) rfl
theorem q1402 : (Jvm.Cond.privateMethod ({ cls := "PollAuditModel", name := "halve", desc := "(I)I" } : Jvm.MethodName)) ∈ lw_tbl := lw_at lw_m6 150 rfl
theorem q1403 : (Jvm.Cond.instanceMethod ({ cls := "PollAuditModel", name := "halve", desc := "(I)I" } : Jvm.MethodName)) ∈ lw_all := lw_g (lw_at lw_m6 151 rfl) rfl
theorem q1404 : (Jvm.Cond.code ({ cls := "PollAuditModel", name := "halve", desc := "(I)I" } : Jvm.MethodName) prog_13_method_11_code (7 : Nat) (Option.some Jvm.ClassFile.FieldType.int)) ∈ lw_all := lw_g (lw_at lw_m6 152 rfl) rfl
theorem q1405 : (Jvm.Cond.methodLink "PollAuditModel" (207 : Nat) ({ cls := "PollAuditModel", name := "less", desc := "(II)V" } : Jvm.MethodName)) ∈ lw_all := lw_g (lw_at lw_m6 153 rfl) rfl
theorem q1406 : (Jvm.Cond.privateMethod ({ cls := "PollAuditModel", name := "less", desc := "(II)V" } : Jvm.MethodName)) ∈ lw_tbl := lw_at lw_m6 154 rfl
theorem q1407 : (Jvm.Cond.instanceMethod ({ cls := "PollAuditModel", name := "less", desc := "(II)V" } : Jvm.MethodName)) ∈ lw_all := lw_g (lw_at lw_m6 155 rfl) rfl
theorem q1408 : (Jvm.Cond.code ({ cls := "PollAuditModel", name := "less", desc := "(II)V" } : Jvm.MethodName) prog_13_method_10_code (6 : Nat) (Option.none : Option Jvm.ClassFile.FieldType)) ∈ lw_all := lw_g (lw_at lw_m6 156 rfl) rfl
theorem q1409 : (Jvm.Cond.methodLink "PollAuditModel" (210 : Nat) ({ cls := "PollAuditModel", name := "twice", desc := "(II)V" } : Jvm.MethodName)) ∈ lw_all := lw_g (lw_at lw_m6 157 rfl) rfl
theorem q1410 : (Jvm.Cond.privateMethod ({ cls := "PollAuditModel", name := "twice", desc := "(II)V" } : Jvm.MethodName)) ∈ lw_tbl := lw_at lw_m6 158 rfl
theorem q1411 : (Jvm.Cond.instanceMethod ({ cls := "PollAuditModel", name := "twice", desc := "(II)V" } : Jvm.MethodName)) ∈ lw_all := lw_g (lw_at lw_m6 159 rfl) rfl
theorem q1412 : (Jvm.Cond.code ({ cls := "PollAuditModel", name := "twice", desc := "(II)V" } : Jvm.MethodName) prog_13_method_12_code (4 : Nat) (Option.none : Option Jvm.ClassFile.FieldType)) ∈ lw_all := lw_g (lw_at lw_m6 160 rfl) rfl
theorem q1413 : (Jvm.Cond.methodLink "PollAuditModel" (217 : Nat) ({ cls := "PollAuditModel", name := "divide", desc := "(II)V" } : Jvm.MethodName)) ∈ lw_all := lw_g (lw_at lw_m6 161 rfl) rfl
theorem q1414 : (Jvm.Cond.privateMethod ({ cls := "PollAuditModel", name := "divide", desc := "(II)V" } : Jvm.MethodName)) ∈ lw_tbl := lw_at lw_m6 162 rfl
theorem q1415 : (Jvm.Cond.instanceMethod ({ cls := "PollAuditModel", name := "divide", desc := "(II)V" } : Jvm.MethodName)) ∈ lw_all := lw_g (lw_at lw_m6 163 rfl) rfl
theorem q1416 : (Jvm.Cond.code ({ cls := "PollAuditModel", name := "divide", desc := "(II)V" } : Jvm.MethodName) prog_13_method_14_code (20 : Nat) (Option.none : Option Jvm.ClassFile.FieldType)) ∈ lw_all := lw_g (lw_at lw_m6 164 rfl) rfl
theorem q1417 : (Jvm.Cond.constant "PollAuditModel" (213 : Nat) (32768 : Int32)) ∈ lw_all := lw_g (lw_at lw_m6 165 rfl) rfl
theorem q1419 : (Jvm.Cond.instanceMethod ({ cls := "PollAuditModel", name := "show", desc := "(II)Z" } : Jvm.MethodName)) ∈ lw_all := lw_g (lw_at lw_m6 167 rfl) rfl
theorem q1420 : (Jvm.Cond.selects "PollAuditModel" ({ cls := "PollAuditModel", name := "show", desc := "(II)Z" } : Jvm.MethodName) ({ cls := "PollAuditModel", name := "show", desc := "(II)Z" } : Jvm.MethodName)) ∈ lw_all := lw_g (lw_at lw_m6 168 rfl) rfl
theorem q1421 : (Jvm.Cond.code ({ cls := "PollAuditModel", name := "show", desc := "(II)Z" } : Jvm.MethodName) prog_13_method_50_code (4 : Nat) (Option.some Jvm.ClassFile.FieldType.boolean)) ∈ lw_all := lw_g (lw_at lw_m6 169 rfl) rfl
theorem q1423 : (Jvm.Cond.instanceMethod ({ cls := "PollAuditModel", name := "size", desc := "(I)I" } : Jvm.MethodName)) ∈ lw_all := lw_g (lw_at lw_m6 171 rfl) rfl
theorem q1424 : (Jvm.Cond.selects "PollAuditModel" ({ cls := "PollAuditModel", name := "size", desc := "(I)I" } : Jvm.MethodName) ({ cls := "PollAuditModel", name := "size", desc := "(I)I" } : Jvm.MethodName)) ∈ lw_all := lw_g (lw_at lw_m6 172 rfl) rfl
theorem q1425 : (Jvm.Cond.code ({ cls := "PollAuditModel", name := "size", desc := "(I)I" } : Jvm.MethodName) prog_13_method_52_code (2 : Nat) (Option.some Jvm.ClassFile.FieldType.int)) ∈ lw_all := lw_g (lw_at lw_m6 173 rfl) rfl
theorem q1426 : (Jvm.Cond.methodLink "PollAuditModel" (332 : Nat) ({ cls := "PollAuditModel", name := "limbs", desc := "(I)I" } : Jvm.MethodName)) ∈ lw_all := lw_g (lw_at lw_m6 174 rfl) rfl
theorem q1427 : (Jvm.Cond.privateMethod ({ cls := "PollAuditModel", name := "limbs", desc := "(I)I" } : Jvm.MethodName)) ∈ lw_tbl := lw_at lw_m6 175 rfl
theorem q1428 : (Jvm.Cond.instanceMethod ({ cls := "PollAuditModel", name := "limbs", desc := "(I)I" } : Jvm.MethodName)) ∈ lw_all := lw_g (lw_at lw_m6 176 rfl) rfl
theorem q1429 : (Jvm.Cond.code ({ cls := "PollAuditModel", name := "limbs", desc := "(I)I" } : Jvm.MethodName) prog_13_method_51_code (2 : Nat) (Option.some Jvm.ClassFile.FieldType.int)) ∈ lw_all := lw_g (lw_at lw_m6 177 rfl) rfl
theorem q1431 : (Jvm.Cond.instanceMethod ({ cls := "PollAuditModel", name := "limb", desc := "(II)I" } : Jvm.MethodName)) ∈ lw_all := lw_g (lw_at lw_m6 179 rfl) rfl
theorem q1432 : (Jvm.Cond.selects "PollAuditModel" ({ cls := "PollAuditModel", name := "limb", desc := "(II)I" } : Jvm.MethodName) ({ cls := "PollAuditModel", name := "limb", desc := "(II)I" } : Jvm.MethodName)) ∈ lw_all := lw_g (lw_at lw_m6 180 rfl) rfl
theorem q1433 : (Jvm.Cond.code ({ cls := "PollAuditModel", name := "limb", desc := "(II)I" } : Jvm.MethodName) prog_13_method_53_code (4 : Nat) (Option.some Jvm.ClassFile.FieldType.int)) ∈ lw_all := lw_g (lw_at lw_m6 181 rfl) rfl
