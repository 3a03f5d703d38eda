theorem d_law_law_1002 : decode code 1002 = .ok (.ireturn, 1) := by decide +kernel
theorem d_law_law_1003 : decode code 1003 = .ok (.iload 5, 2) := by decide +kernel
theorem d_law_law_1005 : decode code 1005 = .ok (.ifCond .ne 14, 3) := by decide +kernel
theorem d_law_law_1008 : decode code 1008 = .ok (.aload_n 3, 1) := by decide +kernel
theorem d_law_law_1009 : decode code 1009 = .ok (.iconst 0, 1) := by decide +kernel
theorem d_law_law_1010 : decode code 1010 = .ok (.laload, 1) := by decide +kernel
theorem d_law_law_1011 : decode code 1011 = .ok (.lload 6, 2) := by decide +kernel
theorem d_law_law_1013 : decode code 1013 = .ok (.lcmp, 1) := by decide +kernel
theorem d_law_law_1014 : decode code 1014 = .ok (.ifCond .eq 5, 3) := by decide +kernel
theorem d_law_law_1017 : decode code 1017 = .ok (.iconst 0, 1) := by decide +kernel
theorem d_law_law_1018 : decode code 1018 = .ok (.ireturn, 1) := by decide +kernel
theorem d_law_law_1019 : decode code 1019 = .ok (.goto 602, 3) := by decide +kernel
theorem d_law_law_1022 : decode code 1022 = .ok (.aload_n 1, 1) := by decide +kernel
theorem d_law_law_1023 : decode code 1023 = .ok (.aload_n 0, 1) := by decide +kernel
theorem d_law_law_1024 : decode code 1024 = .ok (.iload 4, 2) := by decide +kernel
theorem d_law_law_1026 : decode code 1026 = .ok (.iconst 1, 1) := by decide +kernel
theorem d_law_law_1027 : decode code 1027 = .ok (.iadd, 1) := by decide +kernel
theorem d_law_law_1028 : decode code 1028 = .ok (.iaload, 1) := by decide +kernel
theorem d_law_law_1029 : decode code 1029 = .ok (.aload_n 0, 1) := by decide +kernel
theorem d_law_law_1030 : decode code 1030 = .ok (.iload 4, 2) := by decide +kernel
theorem d_law_law_1032 : decode code 1032 = .ok (.iconst 2, 1) := by decide +kernel
theorem d_law_law_1033 : decode code 1033 = .ok (.iadd, 1) := by decide +kernel
theorem d_law_law_1034 : decode code 1034 = .ok (.iaload, 1) := by decide +kernel
theorem d_law_law_1035 : decode code 1035 = .ok (.aload_n 0, 1) := by decide +kernel
theorem d_law_law_1036 : decode code 1036 = .ok (.iload 4, 2) := by decide +kernel
theorem d_law_law_1038 : decode code 1038 = .ok (.iconst 3, 1) := by decide +kernel
theorem d_law_law_1039 : decode code 1039 = .ok (.iadd, 1) := by decide +kernel
theorem d_law_law_1040 : decode code 1040 = .ok (.iaload, 1) := by decide +kernel
theorem d_law_law_1041 : decode code 1041 = .ok (.aload_n 3, 1) := by decide +kernel
theorem d_law_law_1042 : decode code 1042 = .ok (.invokestatic 141, 3) := by decide +kernel
theorem d_law_law_1045 : decode code 1045 = .ok (.istore 5, 2) := by decide +kernel
theorem d_law_law_1047 : decode code 1047 = .ok (.aload_n 2, 1) := by decide +kernel
theorem d_law_law_1048 : decode code 1048 = .ok (.aload_n 0, 1) := by decide +kernel
theorem d_law_law_1049 : decode code 1049 = .ok (.iload 4, 2) := by decide +kernel
theorem d_law_law_1051 : decode code 1051 = .ok (.iconst 1, 1) := by decide +kernel
theorem d_law_law_1052 : decode code 1052 = .ok (.iadd, 1) := by decide +kernel
theorem d_law_law_1053 : decode code 1053 = .ok (.iaload, 1) := by decide +kernel
theorem d_law_law_1054 : decode code 1054 = .ok (.aload_n 0, 1) := by decide +kernel
theorem d_law_law_1055 : decode code 1055 = .ok (.iload 4, 2) := by decide +kernel
theorem d_law_law_1057 : decode code 1057 = .ok (.iconst 2, 1) := by decide +kernel
theorem d_law_law_1058 : decode code 1058 = .ok (.iadd, 1) := by decide +kernel
theorem d_law_law_1059 : decode code 1059 = .ok (.iaload, 1) := by decide +kernel
theorem d_law_law_1060 : decode code 1060 = .ok (.aload_n 0, 1) := by decide +kernel
theorem d_law_law_1061 : decode code 1061 = .ok (.iload 4, 2) := by decide +kernel
theorem d_law_law_1063 : decode code 1063 = .ok (.iconst 3, 1) := by decide +kernel
theorem d_law_law_1064 : decode code 1064 = .ok (.iadd, 1) := by decide +kernel
theorem d_law_law_1065 : decode code 1065 = .ok (.iaload, 1) := by decide +kernel
theorem d_law_law_1066 : decode code 1066 = .ok (.invokevirtual 144, 3) := by decide +kernel
theorem d_law_law_1069 : decode code 1069 = .ok (.lstore 6, 2) := by decide +kernel
theorem d_law_law_1071 : decode code 1071 = .ok (.aload_n 2, 1) := by decide +kernel
theorem d_law_law_1072 : decode code 1072 = .ok (.invokevirtual 97, 3) := by decide +kernel
theorem d_law_law_1075 : decode code 1075 = .ok (.iload 5, 2) := by decide +kernel
theorem d_law_law_1077 : decode code 1077 = .ok (.if_icmp .eq 5, 3) := by decide +kernel
theorem d_law_law_1080 : decode code 1080 = .ok (.iconst 0, 1) := by decide +kernel
theorem d_law_law_1081 : decode code 1081 = .ok (.ireturn, 1) := by decide +kernel
theorem d_law_law_1082 : decode code 1082 = .ok (.iload 5, 2) := by decide +kernel
theorem d_law_law_1084 : decode code 1084 = .ok (.ifCond .ne 14, 3) := by decide +kernel
theorem d_law_law_1087 : decode code 1087 = .ok (.aload_n 3, 1) := by decide +kernel
theorem d_law_law_1088 : decode code 1088 = .ok (.iconst 0, 1) := by decide +kernel
theorem d_law_law_1089 : decode code 1089 = .ok (.laload, 1) := by decide +kernel
theorem d_law_law_1090 : decode code 1090 = .ok (.lload 6, 2) := by decide +kernel
theorem d_law_law_1092 : decode code 1092 = .ok (.lcmp, 1) := by decide +kernel
theorem d_law_law_1093 : decode code 1093 = .ok (.ifCond .eq 5, 3) := by decide +kernel
theorem d_law_law_1096 : decode code 1096 = .ok (.iconst 0, 1) := by decide +kernel
theorem d_law_law_1097 : decode code 1097 = .ok (.ireturn, 1) := by decide +kernel
theorem d_law_law_1098 : decode code 1098 = .ok (.goto 523, 3) := by decide +kernel
theorem d_law_law_1101 : decode code 1101 = .ok (.aload_n 1, 1) := by decide +kernel
theorem d_law_law_1102 : decode code 1102 = .ok (.aload_n 0, 1) := by decide +kernel
theorem d_law_law_1103 : decode code 1103 = .ok (.iload 4, 2) := by decide +kernel
theorem d_law_law_1105 : decode code 1105 = .ok (.iconst 1, 1) := by decide +kernel
theorem d_law_law_1106 : decode code 1106 = .ok (.iadd, 1) := by decide +kernel
theorem d_law_law_1107 : decode code 1107 = .ok (.iaload, 1) := by decide +kernel
theorem d_law_law_1108 : decode code 1108 = .ok (.aload_n 0, 1) := by decide +kernel
theorem d_law_law_1109 : decode code 1109 = .ok (.iload 4, 2) := by decide +kernel
theorem d_law_law_1111 : decode code 1111 = .ok (.iconst 2, 1) := by decide +kernel
theorem d_law_law_1112 : decode code 1112 = .ok (.iadd, 1) := by decide +kernel
theorem d_law_law_1113 : decode code 1113 = .ok (.iaload, 1) := by decide +kernel
theorem d_law_law_1114 : decode code 1114 = .ok (.aload_n 3, 1) := by decide +kernel
theorem d_law_law_1115 : decode code 1115 = .ok (.invokestatic 145, 3) := by decide +kernel
theorem d_law_law_1118 : decode code 1118 = .ok (.istore 5, 2) := by decide +kernel
theorem d_law_law_1120 : decode code 1120 = .ok (.aload_n 2, 1) := by decide +kernel
theorem d_law_law_1121 : decode code 1121 = .ok (.aload_n 0, 1) := by decide +kernel
theorem d_law_law_1122 : decode code 1122 = .ok (.iload 4, 2) := by decide +kernel
theorem d_law_law_1124 : decode code 1124 = .ok (.iconst 1, 1) := by decide +kernel
theorem d_law_law_1125 : decode code 1125 = .ok (.iadd, 1) := by decide +kernel
theorem d_law_law_1126 : decode code 1126 = .ok (.iaload, 1) := by decide +kernel
theorem d_law_law_1127 : decode code 1127 = .ok (.aload_n 0, 1) := by decide +kernel
theorem d_law_law_1128 : decode code 1128 = .ok (.iload 4, 2) := by decide +kernel
theorem d_law_law_1130 : decode code 1130 = .ok (.iconst 2, 1) := by decide +kernel
theorem d_law_law_1131 : decode code 1131 = .ok (.iadd, 1) := by decide +kernel
theorem d_law_law_1132 : decode code 1132 = .ok (.iaload, 1) := by decide +kernel
theorem d_law_law_1133 : decode code 1133 = .ok (.invokevirtual 147, 3) := by decide +kernel
theorem d_law_law_1136 : decode code 1136 = .ok (.istore 6, 2) := by decide +kernel
theorem d_law_law_1138 : decode code 1138 = .ok (.aload_n 2, 1) := by decide +kernel
theorem d_law_law_1139 : decode code 1139 = .ok (.invokevirtual 97, 3) := by decide +kernel
theorem d_law_law_1142 : decode code 1142 = .ok (.iload 5, 2) := by decide +kernel
theorem d_law_law_1144 : decode code 1144 = .ok (.if_icmp .eq 5, 3) := by decide +kernel
theorem d_law_law_1147 : decode code 1147 = .ok (.iconst 0, 1) := by decide +kernel
theorem d_law_law_1148 : decode code 1148 = .ok (.ireturn, 1) := by decide +kernel
theorem d_law_law_1149 : decode code 1149 = .ok (.iload 5, 2) := by decide +kernel
theorem d_law_law_1151 : decode code 1151 = .ok (.ifCond .ne 15, 3) := by decide +kernel
theorem d_law_law_1154 : decode code 1154 = .ok (.aload_n 3, 1) := by decide +kernel
theorem d_law_law_1155 : decode code 1155 = .ok (.iconst 0, 1) := by decide +kernel
theorem d_law_law_1156 : decode code 1156 = .ok (.laload, 1) := by decide +kernel
theorem d_law_law_1157 : decode code 1157 = .ok (.iload 6, 2) := by decide +kernel
theorem d_law_law_1159 : decode code 1159 = .ok (.i2l, 1) := by decide +kernel
theorem d_law_law_1160 : decode code 1160 = .ok (.lcmp, 1) := by decide +kernel
theorem d_law_law_1161 : decode code 1161 = .ok (.ifCond .eq 5, 3) := by decide +kernel
theorem d_law_law_1164 : decode code 1164 = .ok (.iconst 0, 1) := by decide +kernel
theorem d_law_law_1165 : decode code 1165 = .ok (.ireturn, 1) := by decide +kernel
theorem d_law_law_1166 : decode code 1166 = .ok (.goto 455, 3) := by decide +kernel
theorem d_law_law_1169 : decode code 1169 = .ok (.aload_n 1, 1) := by decide +kernel
theorem d_law_law_1170 : decode code 1170 = .ok (.aload_n 0, 1) := by decide +kernel
theorem d_law_law_1171 : decode code 1171 = .ok (.iload 4, 2) := by decide +kernel
theorem d_law_law_1173 : decode code 1173 = .ok (.iconst 1, 1) := by decide +kernel
theorem d_law_law_1174 : decode code 1174 = .ok (.iadd, 1) := by decide +kernel
theorem d_law_law_1175 : decode code 1175 = .ok (.iaload, 1) := by decide +kernel
theorem d_law_law_1176 : decode code 1176 = .ok (.aload_n 0, 1) := by decide +kernel
theorem d_law_law_1177 : decode code 1177 = .ok (.iload 4, 2) := by decide +kernel
theorem d_law_law_1179 : decode code 1179 = .ok (.iconst 2, 1) := by decide +kernel
theorem d_law_law_1180 : decode code 1180 = .ok (.iadd, 1) := by decide +kernel
theorem d_law_law_1181 : decode code 1181 = .ok (.iaload, 1) := by decide +kernel
theorem d_law_law_1182 : decode code 1182 = .ok (.aload_n 3, 1) := by decide +kernel
theorem d_law_law_1183 : decode code 1183 = .ok (.invokestatic 148, 3) := by decide +kernel
theorem d_law_law_1186 : decode code 1186 = .ok (.istore 5, 2) := by decide +kernel
theorem d_law_law_1188 : decode code 1188 = .ok (.aload_n 2, 1) := by decide +kernel
theorem d_law_law_1189 : decode code 1189 = .ok (.aload_n 0, 1) := by decide +kernel
theorem d_law_law_1190 : decode code 1190 = .ok (.iload 4, 2) := by decide +kernel
theorem d_law_law_1192 : decode code 1192 = .ok (.iconst 1, 1) := by decide +kernel
theorem d_law_law_1193 : decode code 1193 = .ok (.iadd, 1) := by decide +kernel
theorem d_law_law_1194 : decode code 1194 = .ok (.iaload, 1) := by decide +kernel
theorem d_law_law_1195 : decode code 1195 = .ok (.aload_n 0, 1) := by decide +kernel
theorem d_law_law_1196 : decode code 1196 = .ok (.iload 4, 2) := by decide +kernel
theorem d_law_law_1198 : decode code 1198 = .ok (.iconst 2, 1) := by decide +kernel
theorem d_law_law_1199 : decode code 1199 = .ok (.iadd, 1) := by decide +kernel
theorem d_law_law_1200 : decode code 1200 = .ok (.iaload, 1) := by decide +kernel
theorem d_law_law_1201 : decode code 1201 = .ok (.invokevirtual 150, 3) := by decide +kernel
theorem d_law_law_1204 : decode code 1204 = .ok (.istore 6, 2) := by decide +kernel
theorem d_law_law_1206 : decode code 1206 = .ok (.aload_n 2, 1) := by decide +kernel
theorem d_law_law_1207 : decode code 1207 = .ok (.invokevirtual 97, 3) := by decide +kernel
theorem d_law_law_1210 : decode code 1210 = .ok (.iload 5, 2) := by decide +kernel
theorem d_law_law_1212 : decode code 1212 = .ok (.if_icmp .eq 5, 3) := by decide +kernel
theorem d_law_law_1215 : decode code 1215 = .ok (.iconst 0, 1) := by decide +kernel
theorem d_law_law_1216 : decode code 1216 = .ok (.ireturn, 1) := by decide +kernel
theorem d_law_law_1217 : decode code 1217 = .ok (.iload 5, 2) := by decide +kernel
theorem d_law_law_1219 : decode code 1219 = .ok (.ifCond .ne 15, 3) := by decide +kernel
theorem d_law_law_1222 : decode code 1222 = .ok (.aload_n 3, 1) := by decide +kernel
theorem d_law_law_1223 : decode code 1223 = .ok (.iconst 0, 1) := by decide +kernel
theorem d_law_law_1224 : decode code 1224 = .ok (.laload, 1) := by decide +kernel
theorem d_law_law_1225 : decode code 1225 = .ok (.iload 6, 2) := by decide +kernel
