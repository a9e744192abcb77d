set_option maxRecDepth 100000
theorem dL_law_1029 : decode cL_law 1029 = .ok (.invokestatic 144, 3) := by decide +kernel
theorem dL_law_1032 : decode cL_law 1032 = .ok (.istore 5, 2) := by decide +kernel
theorem dL_law_1034 : decode cL_law 1034 = .ok (.aload_n 2, 1) := by decide +kernel
theorem dL_law_1035 : decode cL_law 1035 = .ok (.aload_n 0, 1) := by decide +kernel
theorem dL_law_1036 : decode cL_law 1036 = .ok (.iload 4, 2) := by decide +kernel
theorem dL_law_1038 : decode cL_law 1038 = .ok (.iconst 1, 1) := by decide +kernel
theorem dL_law_1039 : decode cL_law 1039 = .ok (.iadd, 1) := by decide +kernel
theorem dL_law_1040 : decode cL_law 1040 = .ok (.iaload, 1) := by decide +kernel
theorem dL_law_1041 : decode cL_law 1041 = .ok (.aload_n 0, 1) := by decide +kernel
theorem dL_law_1042 : decode cL_law 1042 = .ok (.iload 4, 2) := by decide +kernel
theorem dL_law_1044 : decode cL_law 1044 = .ok (.iconst 2, 1) := by decide +kernel
theorem dL_law_1045 : decode cL_law 1045 = .ok (.iadd, 1) := by decide +kernel
theorem dL_law_1046 : decode cL_law 1046 = .ok (.iaload, 1) := by decide +kernel
theorem dL_law_1047 : decode cL_law 1047 = .ok (.invokevirtual 146, 3) := by decide +kernel
theorem dL_law_1050 : decode cL_law 1050 = .ok (.istore 6, 2) := by decide +kernel
theorem dL_law_1052 : decode cL_law 1052 = .ok (.aload_n 2, 1) := by decide +kernel
theorem dL_law_1053 : decode cL_law 1053 = .ok (.invokevirtual 94, 3) := by decide +kernel
theorem dL_law_1056 : decode cL_law 1056 = .ok (.iload 5, 2) := by decide +kernel
theorem dL_law_1058 : decode cL_law 1058 = .ok (.if_icmp .eq 5, 3) := by decide +kernel
theorem dL_law_1061 : decode cL_law 1061 = .ok (.iconst 0, 1) := by decide +kernel
theorem dL_law_1062 : decode cL_law 1062 = .ok (.ireturn, 1) := by decide +kernel
theorem dL_law_1063 : decode cL_law 1063 = .ok (.iload 5, 2) := by decide +kernel
theorem dL_law_1065 : decode cL_law 1065 = .ok (.ifCond .ne 15, 3) := by decide +kernel
theorem dL_law_1068 : decode cL_law 1068 = .ok (.aload_n 3, 1) := by decide +kernel
theorem dL_law_1069 : decode cL_law 1069 = .ok (.iconst 0, 1) := by decide +kernel
theorem dL_law_1070 : decode cL_law 1070 = .ok (.laload, 1) := by decide +kernel
theorem dL_law_1071 : decode cL_law 1071 = .ok (.iload 6, 2) := by decide +kernel
theorem dL_law_1073 : decode cL_law 1073 = .ok (.i2l, 1) := by decide +kernel
theorem dL_law_1074 : decode cL_law 1074 = .ok (.lcmp, 1) := by decide +kernel
theorem dL_law_1075 : decode cL_law 1075 = .ok (.ifCond .eq 5, 3) := by decide +kernel
theorem dL_law_1078 : decode cL_law 1078 = .ok (.iconst 0, 1) := by decide +kernel
theorem dL_law_1079 : decode cL_law 1079 = .ok (.ireturn, 1) := by decide +kernel
theorem dL_law_1080 : decode cL_law 1080 = .ok (.goto 374, 3) := by decide +kernel
theorem dL_law_1083 : decode cL_law 1083 = .ok (.aload_n 1, 1) := by decide +kernel
theorem dL_law_1084 : decode cL_law 1084 = .ok (.aload_n 0, 1) := by decide +kernel
theorem dL_law_1085 : decode cL_law 1085 = .ok (.iload 4, 2) := by decide +kernel
theorem dL_law_1087 : decode cL_law 1087 = .ok (.iconst 1, 1) := by decide +kernel
theorem dL_law_1088 : decode cL_law 1088 = .ok (.iadd, 1) := by decide +kernel
theorem dL_law_1089 : decode cL_law 1089 = .ok (.iaload, 1) := by decide +kernel
theorem dL_law_1090 : decode cL_law 1090 = .ok (.aload_n 0, 1) := by decide +kernel
theorem dL_law_1091 : decode cL_law 1091 = .ok (.iload 4, 2) := by decide +kernel
theorem dL_law_1093 : decode cL_law 1093 = .ok (.iconst 2, 1) := by decide +kernel
theorem dL_law_1094 : decode cL_law 1094 = .ok (.iadd, 1) := by decide +kernel
theorem dL_law_1095 : decode cL_law 1095 = .ok (.iaload, 1) := by decide +kernel
theorem dL_law_1096 : decode cL_law 1096 = .ok (.aload_n 3, 1) := by decide +kernel
theorem dL_law_1097 : decode cL_law 1097 = .ok (.invokestatic 147, 3) := by decide +kernel
theorem dL_law_1100 : decode cL_law 1100 = .ok (.istore 5, 2) := by decide +kernel
theorem dL_law_1102 : decode cL_law 1102 = .ok (.aload_n 2, 1) := by decide +kernel
theorem dL_law_1103 : decode cL_law 1103 = .ok (.aload_n 0, 1) := by decide +kernel
theorem dL_law_1104 : decode cL_law 1104 = .ok (.iload 4, 2) := by decide +kernel
theorem dL_law_1106 : decode cL_law 1106 = .ok (.iconst 1, 1) := by decide +kernel
theorem dL_law_1107 : decode cL_law 1107 = .ok (.iadd, 1) := by decide +kernel
theorem dL_law_1108 : decode cL_law 1108 = .ok (.iaload, 1) := by decide +kernel
theorem dL_law_1109 : decode cL_law 1109 = .ok (.aload_n 0, 1) := by decide +kernel
theorem dL_law_1110 : decode cL_law 1110 = .ok (.iload 4, 2) := by decide +kernel
theorem dL_law_1112 : decode cL_law 1112 = .ok (.iconst 2, 1) := by decide +kernel
theorem dL_law_1113 : decode cL_law 1113 = .ok (.iadd, 1) := by decide +kernel
theorem dL_law_1114 : decode cL_law 1114 = .ok (.iaload, 1) := by decide +kernel
theorem dL_law_1115 : decode cL_law 1115 = .ok (.invokevirtual 149, 3) := by decide +kernel
theorem dL_law_1118 : decode cL_law 1118 = .ok (.istore 6, 2) := by decide +kernel
theorem dL_law_1120 : decode cL_law 1120 = .ok (.aload_n 2, 1) := by decide +kernel
theorem dL_law_1121 : decode cL_law 1121 = .ok (.invokevirtual 94, 3) := by decide +kernel
theorem dL_law_1124 : decode cL_law 1124 = .ok (.iload 5, 2) := by decide +kernel
theorem dL_law_1126 : decode cL_law 1126 = .ok (.if_icmp .eq 5, 3) := by decide +kernel
theorem dL_law_1129 : decode cL_law 1129 = .ok (.iconst 0, 1) := by decide +kernel
theorem dL_law_1130 : decode cL_law 1130 = .ok (.ireturn, 1) := by decide +kernel
theorem dL_law_1131 : decode cL_law 1131 = .ok (.iload 5, 2) := by decide +kernel
theorem dL_law_1133 : decode cL_law 1133 = .ok (.ifCond .ne 15, 3) := by decide +kernel
theorem dL_law_1136 : decode cL_law 1136 = .ok (.aload_n 3, 1) := by decide +kernel
theorem dL_law_1137 : decode cL_law 1137 = .ok (.iconst 0, 1) := by decide +kernel
theorem dL_law_1138 : decode cL_law 1138 = .ok (.laload, 1) := by decide +kernel
theorem dL_law_1139 : decode cL_law 1139 = .ok (.iload 6, 2) := by decide +kernel
theorem dL_law_1141 : decode cL_law 1141 = .ok (.i2l, 1) := by decide +kernel
theorem dL_law_1142 : decode cL_law 1142 = .ok (.lcmp, 1) := by decide +kernel
theorem dL_law_1143 : decode cL_law 1143 = .ok (.ifCond .eq 5, 3) := by decide +kernel
theorem dL_law_1146 : decode cL_law 1146 = .ok (.iconst 0, 1) := by decide +kernel
theorem dL_law_1147 : decode cL_law 1147 = .ok (.ireturn, 1) := by decide +kernel
theorem dL_law_1148 : decode cL_law 1148 = .ok (.goto 306, 3) := by decide +kernel
theorem dL_law_1151 : decode cL_law 1151 = .ok (.aload_n 1, 1) := by decide +kernel
theorem dL_law_1152 : decode cL_law 1152 = .ok (.aload_n 0, 1) := by decide +kernel
theorem dL_law_1153 : decode cL_law 1153 = .ok (.iload 4, 2) := by decide +kernel
theorem dL_law_1155 : decode cL_law 1155 = .ok (.iconst 1, 1) := by decide +kernel
theorem dL_law_1156 : decode cL_law 1156 = .ok (.iadd, 1) := by decide +kernel
theorem dL_law_1157 : decode cL_law 1157 = .ok (.iaload, 1) := by decide +kernel
theorem dL_law_1158 : decode cL_law 1158 = .ok (.aload_n 0, 1) := by decide +kernel
theorem dL_law_1159 : decode cL_law 1159 = .ok (.iload 4, 2) := by decide +kernel
theorem dL_law_1161 : decode cL_law 1161 = .ok (.iconst 2, 1) := by decide +kernel
theorem dL_law_1162 : decode cL_law 1162 = .ok (.iadd, 1) := by decide +kernel
theorem dL_law_1163 : decode cL_law 1163 = .ok (.iaload, 1) := by decide +kernel
theorem dL_law_1164 : decode cL_law 1164 = .ok (.aload_n 0, 1) := by decide +kernel
theorem dL_law_1165 : decode cL_law 1165 = .ok (.iload 4, 2) := by decide +kernel
theorem dL_law_1167 : decode cL_law 1167 = .ok (.iconst 3, 1) := by decide +kernel
theorem dL_law_1168 : decode cL_law 1168 = .ok (.iadd, 1) := by decide +kernel
theorem dL_law_1169 : decode cL_law 1169 = .ok (.iaload, 1) := by decide +kernel
theorem dL_law_1170 : decode cL_law 1170 = .ok (.aload_n 0, 1) := by decide +kernel
theorem dL_law_1171 : decode cL_law 1171 = .ok (.iload 4, 2) := by decide +kernel
theorem dL_law_1173 : decode cL_law 1173 = .ok (.iconst 4, 1) := by decide +kernel
theorem dL_law_1174 : decode cL_law 1174 = .ok (.iadd, 1) := by decide +kernel
theorem dL_law_1175 : decode cL_law 1175 = .ok (.iaload, 1) := by decide +kernel
theorem dL_law_1176 : decode cL_law 1176 = .ok (.aload_n 0, 1) := by decide +kernel
theorem dL_law_1177 : decode cL_law 1177 = .ok (.iload 4, 2) := by decide +kernel
theorem dL_law_1179 : decode cL_law 1179 = .ok (.iconst 5, 1) := by decide +kernel
theorem dL_law_1180 : decode cL_law 1180 = .ok (.iadd, 1) := by decide +kernel
theorem dL_law_1181 : decode cL_law 1181 = .ok (.iaload, 1) := by decide +kernel
theorem dL_law_1182 : decode cL_law 1182 = .ok (.aload_n 3, 1) := by decide +kernel
theorem dL_law_1183 : decode cL_law 1183 = .ok (.invokestatic 150, 3) := by decide +kernel
theorem dL_law_1186 : decode cL_law 1186 = .ok (.istore 5, 2) := by decide +kernel
theorem dL_law_1188 : decode cL_law 1188 = .ok (.aload_n 2, 1) := by decide +kernel
theorem dL_law_1189 : decode cL_law 1189 = .ok (.aload_n 0, 1) := by decide +kernel
theorem dL_law_1190 : decode cL_law 1190 = .ok (.iload 4, 2) := by decide +kernel
theorem dL_law_1192 : decode cL_law 1192 = .ok (.iconst 1, 1) := by decide +kernel
theorem dL_law_1193 : decode cL_law 1193 = .ok (.iadd, 1) := by decide +kernel
theorem dL_law_1194 : decode cL_law 1194 = .ok (.iaload, 1) := by decide +kernel
theorem dL_law_1195 : decode cL_law 1195 = .ok (.aload_n 0, 1) := by decide +kernel
theorem dL_law_1196 : decode cL_law 1196 = .ok (.iload 4, 2) := by decide +kernel
theorem dL_law_1198 : decode cL_law 1198 = .ok (.iconst 2, 1) := by decide +kernel
theorem dL_law_1199 : decode cL_law 1199 = .ok (.iadd, 1) := by decide +kernel
theorem dL_law_1200 : decode cL_law 1200 = .ok (.iaload, 1) := by decide +kernel
theorem dL_law_1201 : decode cL_law 1201 = .ok (.aload_n 0, 1) := by decide +kernel
theorem dL_law_1202 : decode cL_law 1202 = .ok (.iload 4, 2) := by decide +kernel
theorem dL_law_1204 : decode cL_law 1204 = .ok (.iconst 3, 1) := by decide +kernel
theorem dL_law_1205 : decode cL_law 1205 = .ok (.iadd, 1) := by decide +kernel
theorem dL_law_1206 : decode cL_law 1206 = .ok (.iaload, 1) := by decide +kernel
theorem dL_law_1207 : decode cL_law 1207 = .ok (.aload_n 0, 1) := by decide +kernel
theorem dL_law_1208 : decode cL_law 1208 = .ok (.iload 4, 2) := by decide +kernel
theorem dL_law_1210 : decode cL_law 1210 = .ok (.iconst 4, 1) := by decide +kernel
theorem dL_law_1211 : decode cL_law 1211 = .ok (.iadd, 1) := by decide +kernel
theorem dL_law_1212 : decode cL_law 1212 = .ok (.iaload, 1) := by decide +kernel
theorem dL_law_1213 : decode cL_law 1213 = .ok (.aload_n 0, 1) := by decide +kernel
theorem dL_law_1214 : decode cL_law 1214 = .ok (.iload 4, 2) := by decide +kernel
theorem dL_law_1216 : decode cL_law 1216 = .ok (.iconst 5, 1) := by decide +kernel
theorem dL_law_1217 : decode cL_law 1217 = .ok (.iadd, 1) := by decide +kernel
theorem dL_law_1218 : decode cL_law 1218 = .ok (.iaload, 1) := by decide +kernel
theorem dL_law_1219 : decode cL_law 1219 = .ok (.invokevirtual 153, 3) := by decide +kernel
theorem dL_law_1222 : decode cL_law 1222 = .ok (.istore 6, 2) := by decide +kernel
theorem dL_law_1224 : decode cL_law 1224 = .ok (.aload_n 2, 1) := by decide +kernel
theorem dL_law_1225 : decode cL_law 1225 = .ok (.invokevirtual 94, 3) := by decide +kernel
theorem dL_law_1228 : decode cL_law 1228 = .ok (.iload 5, 2) := by decide +kernel
theorem dL_law_1230 : decode cL_law 1230 = .ok (.if_icmp .eq 5, 3) := by decide +kernel
theorem dL_law_1233 : decode cL_law 1233 = .ok (.iconst 0, 1) := by decide +kernel
theorem dL_law_1234 : decode cL_law 1234 = .ok (.ireturn, 1) := by decide +kernel
theorem dL_law_1235 : decode cL_law 1235 = .ok (.iload 5, 2) := by decide +kernel
theorem dL_law_1237 : decode cL_law 1237 = .ok (.ifCond .ne 15, 3) := by decide +kernel
theorem dL_law_1240 : decode cL_law 1240 = .ok (.aload_n 3, 1) := by decide +kernel
theorem dL_law_1241 : decode cL_law 1241 = .ok (.iconst 0, 1) := by decide +kernel
theorem dL_law_1242 : decode cL_law 1242 = .ok (.laload, 1) := by decide +kernel
theorem dL_law_1243 : decode cL_law 1243 = .ok (.iload 6, 2) := by decide +kernel
theorem dL_law_1245 : decode cL_law 1245 = .ok (.i2l, 1) := by decide +kernel
theorem dL_law_1246 : decode cL_law 1246 = .ok (.lcmp, 1) := by decide +kernel
theorem dL_law_1247 : decode cL_law 1247 = .ok (.ifCond .eq 5, 3) := by decide +kernel
