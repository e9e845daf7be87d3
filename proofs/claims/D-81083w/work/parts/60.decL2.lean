set_option maxRecDepth 100000
theorem dL_law_1015 : decode cL_law 1015 = .ok (.lcmp, 1) := by decide +kernel
theorem dL_law_1016 : decode cL_law 1016 = .ok (.ifCond .eq 5, 3) := by decide +kernel
theorem dL_law_1019 : decode cL_law 1019 = .ok (.iconst 0, 1) := by decide +kernel
theorem dL_law_1020 : decode cL_law 1020 = .ok (.ireturn, 1) := by decide +kernel
theorem dL_law_1021 : decode cL_law 1021 = .ok (.goto 2053, 3) := by decide +kernel
theorem dL_law_1024 : decode cL_law 1024 = .ok (.aload_n 1, 1) := by decide +kernel
theorem dL_law_1025 : decode cL_law 1025 = .ok (.aload_n 0, 1) := by decide +kernel
theorem dL_law_1026 : decode cL_law 1026 = .ok (.iload 4, 2) := by decide +kernel
theorem dL_law_1028 : decode cL_law 1028 = .ok (.iconst 1, 1) := by decide +kernel
theorem dL_law_1029 : decode cL_law 1029 = .ok (.iadd, 1) := by decide +kernel
theorem dL_law_1030 : decode cL_law 1030 = .ok (.iaload, 1) := by decide +kernel
theorem dL_law_1031 : decode cL_law 1031 = .ok (.aload_n 0, 1) := by decide +kernel
theorem dL_law_1032 : decode cL_law 1032 = .ok (.iload 4, 2) := by decide +kernel
theorem dL_law_1034 : decode cL_law 1034 = .ok (.iconst 2, 1) := by decide +kernel
theorem dL_law_1035 : decode cL_law 1035 = .ok (.iadd, 1) := by decide +kernel
theorem dL_law_1036 : decode cL_law 1036 = .ok (.iaload, 1) := by decide +kernel
theorem dL_law_1037 : decode cL_law 1037 = .ok (.aload_n 3, 1) := by decide +kernel
theorem dL_law_1038 : decode cL_law 1038 = .ok (.invokestatic 192, 3) := by decide +kernel
theorem dL_law_1041 : decode cL_law 1041 = .ok (.istore 5, 2) := by decide +kernel
theorem dL_law_1043 : decode cL_law 1043 = .ok (.aload_n 2, 1) := by decide +kernel
theorem dL_law_1044 : decode cL_law 1044 = .ok (.aload_n 0, 1) := by decide +kernel
theorem dL_law_1045 : decode cL_law 1045 = .ok (.iload 4, 2) := by decide +kernel
theorem dL_law_1047 : decode cL_law 1047 = .ok (.iconst 1, 1) := by decide +kernel
theorem dL_law_1048 : decode cL_law 1048 = .ok (.iadd, 1) := by decide +kernel
theorem dL_law_1049 : decode cL_law 1049 = .ok (.iaload, 1) := by decide +kernel
theorem dL_law_1050 : decode cL_law 1050 = .ok (.aload_n 0, 1) := by decide +kernel
theorem dL_law_1051 : decode cL_law 1051 = .ok (.iload 4, 2) := by decide +kernel
theorem dL_law_1053 : decode cL_law 1053 = .ok (.iconst 2, 1) := by decide +kernel
theorem dL_law_1054 : decode cL_law 1054 = .ok (.iadd, 1) := by decide +kernel
theorem dL_law_1055 : decode cL_law 1055 = .ok (.iaload, 1) := by decide +kernel
theorem dL_law_1056 : decode cL_law 1056 = .ok (.invokevirtual 194, 3) := by decide +kernel
theorem dL_law_1059 : decode cL_law 1059 = .ok (.istore 6, 2) := by decide +kernel
theorem dL_law_1061 : decode cL_law 1061 = .ok (.aload_n 2, 1) := by decide +kernel
theorem dL_law_1062 : decode cL_law 1062 = .ok (.invokevirtual 151, 3) := by decide +kernel
theorem dL_law_1065 : decode cL_law 1065 = .ok (.iload 5, 2) := by decide +kernel
theorem dL_law_1067 : decode cL_law 1067 = .ok (.if_icmp .eq 5, 3) := by decide +kernel
theorem dL_law_1070 : decode cL_law 1070 = .ok (.iconst 0, 1) := by decide +kernel
theorem dL_law_1071 : decode cL_law 1071 = .ok (.ireturn, 1) := by decide +kernel
theorem dL_law_1072 : decode cL_law 1072 = .ok (.iload 5, 2) := by decide +kernel
theorem dL_law_1074 : decode cL_law 1074 = .ok (.ifCond .ne 15, 3) := by decide +kernel
theorem dL_law_1077 : decode cL_law 1077 = .ok (.aload_n 3, 1) := by decide +kernel
theorem dL_law_1078 : decode cL_law 1078 = .ok (.iconst 0, 1) := by decide +kernel
theorem dL_law_1079 : decode cL_law 1079 = .ok (.laload, 1) := by decide +kernel
theorem dL_law_1080 : decode cL_law 1080 = .ok (.iload 6, 2) := by decide +kernel
theorem dL_law_1082 : decode cL_law 1082 = .ok (.i2l, 1) := by decide +kernel
theorem dL_law_1083 : decode cL_law 1083 = .ok (.lcmp, 1) := by decide +kernel
theorem dL_law_1084 : decode cL_law 1084 = .ok (.ifCond .eq 5, 3) := by decide +kernel
theorem dL_law_1087 : decode cL_law 1087 = .ok (.iconst 0, 1) := by decide +kernel
theorem dL_law_1088 : decode cL_law 1088 = .ok (.ireturn, 1) := by decide +kernel
theorem dL_law_1089 : decode cL_law 1089 = .ok (.goto 1985, 3) := by decide +kernel
theorem dL_law_1092 : decode cL_law 1092 = .ok (.aload_n 1, 1) := by decide +kernel
theorem dL_law_1093 : decode cL_law 1093 = .ok (.aload_n 0, 1) := by decide +kernel
theorem dL_law_1094 : decode cL_law 1094 = .ok (.iload 4, 2) := by decide +kernel
theorem dL_law_1096 : decode cL_law 1096 = .ok (.iconst 1, 1) := by decide +kernel
theorem dL_law_1097 : decode cL_law 1097 = .ok (.iadd, 1) := by decide +kernel
theorem dL_law_1098 : decode cL_law 1098 = .ok (.iaload, 1) := by decide +kernel
theorem dL_law_1099 : decode cL_law 1099 = .ok (.aload_n 3, 1) := by decide +kernel
theorem dL_law_1100 : decode cL_law 1100 = .ok (.invokestatic 195, 3) := by decide +kernel
theorem dL_law_1103 : decode cL_law 1103 = .ok (.istore 5, 2) := by decide +kernel
theorem dL_law_1105 : decode cL_law 1105 = .ok (.aload_n 2, 1) := by decide +kernel
theorem dL_law_1106 : decode cL_law 1106 = .ok (.aload_n 0, 1) := by decide +kernel
theorem dL_law_1107 : decode cL_law 1107 = .ok (.iload 4, 2) := by decide +kernel
theorem dL_law_1109 : decode cL_law 1109 = .ok (.iconst 1, 1) := by decide +kernel
theorem dL_law_1110 : decode cL_law 1110 = .ok (.iadd, 1) := by decide +kernel
theorem dL_law_1111 : decode cL_law 1111 = .ok (.iaload, 1) := by decide +kernel
theorem dL_law_1112 : decode cL_law 1112 = .ok (.invokevirtual 197, 3) := by decide +kernel
theorem dL_law_1115 : decode cL_law 1115 = .ok (.istore 6, 2) := by decide +kernel
theorem dL_law_1117 : decode cL_law 1117 = .ok (.aload_n 2, 1) := by decide +kernel
theorem dL_law_1118 : decode cL_law 1118 = .ok (.invokevirtual 151, 3) := by decide +kernel
theorem dL_law_1121 : decode cL_law 1121 = .ok (.iload 5, 2) := by decide +kernel
theorem dL_law_1123 : decode cL_law 1123 = .ok (.if_icmp .eq 5, 3) := by decide +kernel
theorem dL_law_1126 : decode cL_law 1126 = .ok (.iconst 0, 1) := by decide +kernel
theorem dL_law_1127 : decode cL_law 1127 = .ok (.ireturn, 1) := by decide +kernel
theorem dL_law_1128 : decode cL_law 1128 = .ok (.iload 5, 2) := by decide +kernel
theorem dL_law_1130 : decode cL_law 1130 = .ok (.ifCond .ne 15, 3) := by decide +kernel
theorem dL_law_1133 : decode cL_law 1133 = .ok (.aload_n 3, 1) := by decide +kernel
theorem dL_law_1134 : decode cL_law 1134 = .ok (.iconst 0, 1) := by decide +kernel
theorem dL_law_1135 : decode cL_law 1135 = .ok (.laload, 1) := by decide +kernel
theorem dL_law_1136 : decode cL_law 1136 = .ok (.iload 6, 2) := by decide +kernel
theorem dL_law_1138 : decode cL_law 1138 = .ok (.i2l, 1) := by decide +kernel
theorem dL_law_1139 : decode cL_law 1139 = .ok (.lcmp, 1) := by decide +kernel
theorem dL_law_1140 : decode cL_law 1140 = .ok (.ifCond .eq 5, 3) := by decide +kernel
theorem dL_law_1143 : decode cL_law 1143 = .ok (.iconst 0, 1) := by decide +kernel
theorem dL_law_1144 : decode cL_law 1144 = .ok (.ireturn, 1) := by decide +kernel
theorem dL_law_1145 : decode cL_law 1145 = .ok (.goto 1929, 3) := by decide +kernel
theorem dL_law_1148 : decode cL_law 1148 = .ok (.aload_n 1, 1) := by decide +kernel
theorem dL_law_1149 : decode cL_law 1149 = .ok (.aload_n 0, 1) := by decide +kernel
theorem dL_law_1150 : decode cL_law 1150 = .ok (.iload 4, 2) := by decide +kernel
theorem dL_law_1152 : decode cL_law 1152 = .ok (.iconst 1, 1) := by decide +kernel
theorem dL_law_1153 : decode cL_law 1153 = .ok (.iadd, 1) := by decide +kernel
theorem dL_law_1154 : decode cL_law 1154 = .ok (.iaload, 1) := by decide +kernel
theorem dL_law_1155 : decode cL_law 1155 = .ok (.aload_n 0, 1) := by decide +kernel
theorem dL_law_1156 : decode cL_law 1156 = .ok (.iload 4, 2) := by decide +kernel
theorem dL_law_1158 : decode cL_law 1158 = .ok (.iconst 2, 1) := by decide +kernel
theorem dL_law_1159 : decode cL_law 1159 = .ok (.iadd, 1) := by decide +kernel
theorem dL_law_1160 : decode cL_law 1160 = .ok (.iaload, 1) := by decide +kernel
theorem dL_law_1161 : decode cL_law 1161 = .ok (.aload_n 0, 1) := by decide +kernel
theorem dL_law_1162 : decode cL_law 1162 = .ok (.iload 4, 2) := by decide +kernel
theorem dL_law_1164 : decode cL_law 1164 = .ok (.iconst 3, 1) := by decide +kernel
theorem dL_law_1165 : decode cL_law 1165 = .ok (.iadd, 1) := by decide +kernel
theorem dL_law_1166 : decode cL_law 1166 = .ok (.iaload, 1) := by decide +kernel
theorem dL_law_1167 : decode cL_law 1167 = .ok (.ifCond .eq 7, 3) := by decide +kernel
theorem dL_law_1170 : decode cL_law 1170 = .ok (.iconst 1, 1) := by decide +kernel
theorem dL_law_1171 : decode cL_law 1171 = .ok (.goto 4, 3) := by decide +kernel
theorem dL_law_1174 : decode cL_law 1174 = .ok (.iconst 0, 1) := by decide +kernel
theorem dL_law_1175 : decode cL_law 1175 = .ok (.aload_n 3, 1) := by decide +kernel
theorem dL_law_1176 : decode cL_law 1176 = .ok (.invokestatic 198, 3) := by decide +kernel
theorem dL_law_1179 : decode cL_law 1179 = .ok (.istore 5, 2) := by decide +kernel
theorem dL_law_1181 : decode cL_law 1181 = .ok (.aload_n 2, 1) := by decide +kernel
theorem dL_law_1182 : decode cL_law 1182 = .ok (.aload_n 0, 1) := by decide +kernel
theorem dL_law_1183 : decode cL_law 1183 = .ok (.iload 4, 2) := by decide +kernel
theorem dL_law_1185 : decode cL_law 1185 = .ok (.iconst 1, 1) := by decide +kernel
theorem dL_law_1186 : decode cL_law 1186 = .ok (.iadd, 1) := by decide +kernel
theorem dL_law_1187 : decode cL_law 1187 = .ok (.iaload, 1) := by decide +kernel
theorem dL_law_1188 : decode cL_law 1188 = .ok (.aload_n 0, 1) := by decide +kernel
theorem dL_law_1189 : decode cL_law 1189 = .ok (.iload 4, 2) := by decide +kernel
theorem dL_law_1191 : decode cL_law 1191 = .ok (.iconst 2, 1) := by decide +kernel
theorem dL_law_1192 : decode cL_law 1192 = .ok (.iadd, 1) := by decide +kernel
theorem dL_law_1193 : decode cL_law 1193 = .ok (.iaload, 1) := by decide +kernel
theorem dL_law_1194 : decode cL_law 1194 = .ok (.aload_n 0, 1) := by decide +kernel
theorem dL_law_1195 : decode cL_law 1195 = .ok (.iload 4, 2) := by decide +kernel
theorem dL_law_1197 : decode cL_law 1197 = .ok (.iconst 3, 1) := by decide +kernel
theorem dL_law_1198 : decode cL_law 1198 = .ok (.iadd, 1) := by decide +kernel
theorem dL_law_1199 : decode cL_law 1199 = .ok (.iaload, 1) := by decide +kernel
theorem dL_law_1200 : decode cL_law 1200 = .ok (.ifCond .eq 7, 3) := by decide +kernel
theorem dL_law_1203 : decode cL_law 1203 = .ok (.iconst 1, 1) := by decide +kernel
theorem dL_law_1204 : decode cL_law 1204 = .ok (.goto 4, 3) := by decide +kernel
theorem dL_law_1207 : decode cL_law 1207 = .ok (.iconst 0, 1) := by decide +kernel
theorem dL_law_1208 : decode cL_law 1208 = .ok (.invokevirtual 201, 3) := by decide +kernel
theorem dL_law_1211 : decode cL_law 1211 = .ok (.istore 6, 2) := by decide +kernel
theorem dL_law_1213 : decode cL_law 1213 = .ok (.aload_n 2, 1) := by decide +kernel
theorem dL_law_1214 : decode cL_law 1214 = .ok (.invokevirtual 151, 3) := by decide +kernel
theorem dL_law_1217 : decode cL_law 1217 = .ok (.iload 5, 2) := by decide +kernel
theorem dL_law_1219 : decode cL_law 1219 = .ok (.if_icmp .eq 5, 3) := by decide +kernel
theorem dL_law_1222 : decode cL_law 1222 = .ok (.iconst 0, 1) := by decide +kernel
theorem dL_law_1223 : decode cL_law 1223 = .ok (.ireturn, 1) := by decide +kernel
theorem dL_law_1224 : decode cL_law 1224 = .ok (.iload 5, 2) := by decide +kernel
theorem dL_law_1226 : decode cL_law 1226 = .ok (.ifCond .ne 15, 3) := by decide +kernel
theorem dL_law_1229 : decode cL_law 1229 = .ok (.aload_n 3, 1) := by decide +kernel
theorem dL_law_1230 : decode cL_law 1230 = .ok (.iconst 0, 1) := by decide +kernel
theorem dL_law_1231 : decode cL_law 1231 = .ok (.laload, 1) := by decide +kernel
theorem dL_law_1232 : decode cL_law 1232 = .ok (.iload 6, 2) := by decide +kernel
theorem dL_law_1234 : decode cL_law 1234 = .ok (.i2l, 1) := by decide +kernel
theorem dL_law_1235 : decode cL_law 1235 = .ok (.lcmp, 1) := by decide +kernel
theorem dL_law_1236 : decode cL_law 1236 = .ok (.ifCond .eq 5, 3) := by decide +kernel
theorem dL_law_1239 : decode cL_law 1239 = .ok (.iconst 0, 1) := by decide +kernel
theorem dL_law_1240 : decode cL_law 1240 = .ok (.ireturn, 1) := by decide +kernel
theorem dL_law_1241 : decode cL_law 1241 = .ok (.goto 1833, 3) := by decide +kernel
theorem dL_law_1244 : decode cL_law 1244 = .ok (.aload_n 1, 1) := by decide +kernel
theorem dL_law_1245 : decode cL_law 1245 = .ok (.aload_n 0, 1) := by decide +kernel
theorem dL_law_1246 : decode cL_law 1246 = .ok (.iload 4, 2) := by decide +kernel
theorem dL_law_1248 : decode cL_law 1248 = .ok (.iconst 1, 1) := by decide +kernel
theorem dL_law_1249 : decode cL_law 1249 = .ok (.iadd, 1) := by decide +kernel
theorem dL_law_1250 : decode cL_law 1250 = .ok (.iaload, 1) := by decide +kernel
theorem dL_law_1251 : decode cL_law 1251 = .ok (.aload_n 3, 1) := by decide +kernel
theorem dL_law_1252 : decode cL_law 1252 = .ok (.invokestatic 202, 3) := by decide +kernel
theorem dL_law_1255 : decode cL_law 1255 = .ok (.istore 5, 2) := by decide +kernel
theorem dL_law_1257 : decode cL_law 1257 = .ok (.aload_n 2, 1) := by decide +kernel
theorem dL_law_1258 : decode cL_law 1258 = .ok (.aload_n 0, 1) := by decide +kernel
theorem dL_law_1259 : decode cL_law 1259 = .ok (.iload 4, 2) := by decide +kernel
theorem dL_law_1261 : decode cL_law 1261 = .ok (.iconst 1, 1) := by decide +kernel
theorem dL_law_1262 : decode cL_law 1262 = .ok (.iadd, 1) := by decide +kernel
theorem dL_law_1263 : decode cL_law 1263 = .ok (.iaload, 1) := by decide +kernel
theorem dL_law_1264 : decode cL_law 1264 = .ok (.invokevirtual 204, 3) := by decide +kernel
theorem dL_law_1267 : decode cL_law 1267 = .ok (.istore 6, 2) := by decide +kernel
theorem dL_law_1269 : decode cL_law 1269 = .ok (.aload_n 2, 1) := by decide +kernel
theorem dL_law_1270 : decode cL_law 1270 = .ok (.invokevirtual 151, 3) := by decide +kernel
theorem dL_law_1273 : decode cL_law 1273 = .ok (.iload 5, 2) := by decide +kernel
theorem dL_law_1275 : decode cL_law 1275 = .ok (.if_icmp .eq 5, 3) := by decide +kernel
theorem dL_law_1278 : decode cL_law 1278 = .ok (.iconst 0, 1) := by decide +kernel
theorem dL_law_1279 : decode cL_law 1279 = .ok (.ireturn, 1) := by decide +kernel
theorem dL_law_1280 : decode cL_law 1280 = .ok (.iload 5, 2) := by decide +kernel
theorem dL_law_1282 : decode cL_law 1282 = .ok (.ifCond .ne 15, 3) := by decide +kernel
theorem dL_law_1285 : decode cL_law 1285 = .ok (.aload_n 3, 1) := by decide +kernel
theorem dL_law_1286 : decode cL_law 1286 = .ok (.iconst 0, 1) := by decide +kernel
theorem dL_law_1287 : decode cL_law 1287 = .ok (.laload, 1) := by decide +kernel
theorem dL_law_1288 : decode cL_law 1288 = .ok (.iload 6, 2) := by decide +kernel
theorem dL_law_1290 : decode cL_law 1290 = .ok (.i2l, 1) := by decide +kernel
theorem dL_law_1291 : decode cL_law 1291 = .ok (.lcmp, 1) := by decide +kernel
theorem dL_law_1292 : decode cL_law 1292 = .ok (.ifCond .eq 5, 3) := by decide +kernel
theorem dL_law_1295 : decode cL_law 1295 = .ok (.iconst 0, 1) := by decide +kernel
theorem dL_law_1296 : decode cL_law 1296 = .ok (.ireturn, 1) := by decide +kernel
theorem dL_law_1297 : decode cL_law 1297 = .ok (.goto 1777, 3) := by decide +kernel
theorem dL_law_1300 : decode cL_law 1300 = .ok (.aload_n 1, 1) := by decide +kernel
theorem dL_law_1301 : decode cL_law 1301 = .ok (.aload_n 0, 1) := by decide +kernel
theorem dL_law_1302 : decode cL_law 1302 = .ok (.iload 4, 2) := by decide +kernel
theorem dL_law_1304 : decode cL_law 1304 = .ok (.iconst 1, 1) := by decide +kernel
theorem dL_law_1305 : decode cL_law 1305 = .ok (.iadd, 1) := by decide +kernel
theorem dL_law_1306 : decode cL_law 1306 = .ok (.iaload, 1) := by decide +kernel
theorem dL_law_1307 : decode cL_law 1307 = .ok (.aload_n 0, 1) := by decide +kernel
theorem dL_law_1308 : decode cL_law 1308 = .ok (.iload 4, 2) := by decide +kernel
theorem dL_law_1310 : decode cL_law 1310 = .ok (.iconst 2, 1) := by decide +kernel
theorem dL_law_1311 : decode cL_law 1311 = .ok (.iadd, 1) := by decide +kernel
theorem dL_law_1312 : decode cL_law 1312 = .ok (.iaload, 1) := by decide +kernel
theorem dL_law_1313 : decode cL_law 1313 = .ok (.aload_n 3, 1) := by decide +kernel
theorem dL_law_1314 : decode cL_law 1314 = .ok (.invokestatic 205, 3) := by decide +kernel
theorem dL_law_1317 : decode cL_law 1317 = .ok (.istore 5, 2) := by decide +kernel
theorem dL_law_1319 : decode cL_law 1319 = .ok (.aload_n 2, 1) := by decide +kernel
theorem dL_law_1320 : decode cL_law 1320 = .ok (.aload_n 0, 1) := by decide +kernel
theorem dL_law_1321 : decode cL_law 1321 = .ok (.iload 4, 2) := by decide +kernel
theorem dL_law_1323 : decode cL_law 1323 = .ok (.iconst 1, 1) := by decide +kernel
theorem dL_law_1324 : decode cL_law 1324 = .ok (.iadd, 1) := by decide +kernel
theorem dL_law_1325 : decode cL_law 1325 = .ok (.iaload, 1) := by decide +kernel
theorem dL_law_1326 : decode cL_law 1326 = .ok (.aload_n 0, 1) := by decide +kernel
theorem dL_law_1327 : decode cL_law 1327 = .ok (.iload 4, 2) := by decide +kernel
theorem dL_law_1329 : decode cL_law 1329 = .ok (.iconst 2, 1) := by decide +kernel
theorem dL_law_1330 : decode cL_law 1330 = .ok (.iadd, 1) := by decide +kernel
theorem dL_law_1331 : decode cL_law 1331 = .ok (.iaload, 1) := by decide +kernel
theorem dL_law_1332 : decode cL_law 1332 = .ok (.invokevirtual 207, 3) := by decide +kernel
theorem dL_law_1335 : decode cL_law 1335 = .ok (.istore 6, 2) := by decide +kernel
theorem dL_law_1337 : decode cL_law 1337 = .ok (.aload_n 2, 1) := by decide +kernel
theorem dL_law_1338 : decode cL_law 1338 = .ok (.invokevirtual 151, 3) := by decide +kernel
theorem dL_law_1341 : decode cL_law 1341 = .ok (.iload 5, 2) := by decide +kernel
theorem dL_law_1343 : decode cL_law 1343 = .ok (.if_icmp .eq 5, 3) := by decide +kernel
theorem dL_law_1346 : decode cL_law 1346 = .ok (.iconst 0, 1) := by decide +kernel
theorem dL_law_1347 : decode cL_law 1347 = .ok (.ireturn, 1) := by decide +kernel
theorem dL_law_1348 : decode cL_law 1348 = .ok (.iload 5, 2) := by decide +kernel
theorem dL_law_1350 : decode cL_law 1350 = .ok (.ifCond .ne 15, 3) := by decide +kernel
theorem dL_law_1353 : decode cL_law 1353 = .ok (.aload_n 3, 1) := by decide +kernel
theorem dL_law_1354 : decode cL_law 1354 = .ok (.iconst 0, 1) := by decide +kernel
theorem dL_law_1355 : decode cL_law 1355 = .ok (.laload, 1) := by decide +kernel
theorem dL_law_1356 : decode cL_law 1356 = .ok (.iload 6, 2) := by decide +kernel
theorem dL_law_1358 : decode cL_law 1358 = .ok (.i2l, 1) := by decide +kernel
theorem dL_law_1359 : decode cL_law 1359 = .ok (.lcmp, 1) := by decide +kernel
theorem dL_law_1360 : decode cL_law 1360 = .ok (.ifCond .eq 5, 3) := by decide +kernel
theorem dL_law_1363 : decode cL_law 1363 = .ok (.iconst 0, 1) := by decide +kernel
theorem dL_law_1364 : decode cL_law 1364 = .ok (.ireturn, 1) := by decide +kernel
theorem dL_law_1365 : decode cL_law 1365 = .ok (.goto 1709, 3) := by decide +kernel
theorem dL_law_1368 : decode cL_law 1368 = .ok (.aload_n 1, 1) := by decide +kernel
theorem dL_law_1369 : decode cL_law 1369 = .ok (.aload_n 0, 1) := by decide +kernel
theorem dL_law_1370 : decode cL_law 1370 = .ok (.iload 4, 2) := by decide +kernel
theorem dL_law_1372 : decode cL_law 1372 = .ok (.iconst 1, 1) := by decide +kernel
theorem dL_law_1373 : decode cL_law 1373 = .ok (.iadd, 1) := by decide +kernel
theorem dL_law_1374 : decode cL_law 1374 = .ok (.iaload, 1) := by decide +kernel
theorem dL_law_1375 : decode cL_law 1375 = .ok (.aload_n 0, 1) := by decide +kernel
theorem dL_law_1376 : decode cL_law 1376 = .ok (.iload 4, 2) := by decide +kernel
theorem dL_law_1378 : decode cL_law 1378 = .ok (.iconst 2, 1) := by decide +kernel
theorem dL_law_1379 : decode cL_law 1379 = .ok (.iadd, 1) := by decide +kernel
theorem dL_law_1380 : decode cL_law 1380 = .ok (.iaload, 1) := by decide +kernel
theorem dL_law_1381 : decode cL_law 1381 = .ok (.aload_n 3, 1) := by decide +kernel
theorem dL_law_1382 : decode cL_law 1382 = .ok (.invokestatic 208, 3) := by decide +kernel
theorem dL_law_1385 : decode cL_law 1385 = .ok (.istore 5, 2) := by decide +kernel
theorem dL_law_1387 : decode cL_law 1387 = .ok (.aload_n 2, 1) := by decide +kernel
theorem dL_law_1388 : decode cL_law 1388 = .ok (.aload_n 0, 1) := by decide +kernel
theorem dL_law_1389 : decode cL_law 1389 = .ok (.iload 4, 2) := by decide +kernel
theorem dL_law_1391 : decode cL_law 1391 = .ok (.iconst 1, 1) := by decide +kernel
theorem dL_law_1392 : decode cL_law 1392 = .ok (.iadd, 1) := by decide +kernel
theorem dL_law_1393 : decode cL_law 1393 = .ok (.iaload, 1) := by decide +kernel
theorem dL_law_1394 : decode cL_law 1394 = .ok (.aload_n 0, 1) := by decide +kernel
theorem dL_law_1395 : decode cL_law 1395 = .ok (.iload 4, 2) := by decide +kernel
theorem dL_law_1397 : decode cL_law 1397 = .ok (.iconst 2, 1) := by decide +kernel
theorem dL_law_1398 : decode cL_law 1398 = .ok (.iadd, 1) := by decide +kernel
theorem dL_law_1399 : decode cL_law 1399 = .ok (.iaload, 1) := by decide +kernel
theorem dL_law_1400 : decode cL_law 1400 = .ok (.invokevirtual 210, 3) := by decide +kernel
theorem dL_law_1403 : decode cL_law 1403 = .ok (.istore 6, 2) := by decide +kernel
theorem dL_law_1405 : decode cL_law 1405 = .ok (.aload_n 2, 1) := by decide +kernel
theorem dL_law_1406 : decode cL_law 1406 = .ok (.invokevirtual 151, 3) := by decide +kernel
theorem dL_law_1409 : decode cL_law 1409 = .ok (.iload 5, 2) := by decide +kernel
theorem dL_law_1411 : decode cL_law 1411 = .ok (.if_icmp .eq 5, 3) := by decide +kernel
theorem dL_law_1414 : decode cL_law 1414 = .ok (.iconst 0, 1) := by decide +kernel
theorem dL_law_1415 : decode cL_law 1415 = .ok (.ireturn, 1) := by decide +kernel
theorem dL_law_1416 : decode cL_law 1416 = .ok (.iload 5, 2) := by decide +kernel
theorem dL_law_1418 : decode cL_law 1418 = .ok (.ifCond .ne 15, 3) := by decide +kernel
theorem dL_law_1421 : decode cL_law 1421 = .ok (.aload_n 3, 1) := by decide +kernel
theorem dL_law_1422 : decode cL_law 1422 = .ok (.iconst 0, 1) := by decide +kernel
theorem dL_law_1423 : decode cL_law 1423 = .ok (.laload, 1) := by decide +kernel
theorem dL_law_1424 : decode cL_law 1424 = .ok (.iload 6, 2) := by decide +kernel
theorem dL_law_1426 : decode cL_law 1426 = .ok (.i2l, 1) := by decide +kernel
theorem dL_law_1427 : decode cL_law 1427 = .ok (.lcmp, 1) := by decide +kernel
theorem dL_law_1428 : decode cL_law 1428 = .ok (.ifCond .eq 5, 3) := by decide +kernel
theorem dL_law_1431 : decode cL_law 1431 = .ok (.iconst 0, 1) := by decide +kernel
theorem dL_law_1432 : decode cL_law 1432 = .ok (.ireturn, 1) := by decide +kernel
theorem dL_law_1433 : decode cL_law 1433 = .ok (.goto 1641, 3) := by decide +kernel
theorem dL_law_1436 : decode cL_law 1436 = .ok (.aload_n 1, 1) := by decide +kernel
theorem dL_law_1437 : decode cL_law 1437 = .ok (.aload_n 0, 1) := by decide +kernel
theorem dL_law_1438 : decode cL_law 1438 = .ok (.iload 4, 2) := by decide +kernel
theorem dL_law_1440 : decode cL_law 1440 = .ok (.iconst 1, 1) := by decide +kernel
theorem dL_law_1441 : decode cL_law 1441 = .ok (.iadd, 1) := by decide +kernel
theorem dL_law_1442 : decode cL_law 1442 = .ok (.iaload, 1) := by decide +kernel
theorem dL_law_1443 : decode cL_law 1443 = .ok (.aload_n 0, 1) := by decide +kernel
