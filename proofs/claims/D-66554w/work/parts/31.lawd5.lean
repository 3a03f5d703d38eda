theorem d_law_law_1227 : decode code 1227 = .ok (.i2l, 1) := by decide +kernel
theorem d_law_law_1228 : decode code 1228 = .ok (.lcmp, 1) := by decide +kernel
theorem d_law_law_1229 : decode code 1229 = .ok (.ifCond .eq 5, 3) := by decide +kernel
theorem d_law_law_1232 : decode code 1232 = .ok (.iconst 0, 1) := by decide +kernel
theorem d_law_law_1233 : decode code 1233 = .ok (.ireturn, 1) := by decide +kernel
theorem d_law_law_1234 : decode code 1234 = .ok (.goto 387, 3) := by decide +kernel
theorem d_law_law_1237 : decode code 1237 = .ok (.aload_n 1, 1) := by decide +kernel
theorem d_law_law_1238 : decode code 1238 = .ok (.aload_n 0, 1) := by decide +kernel
theorem d_law_law_1239 : decode code 1239 = .ok (.iload 4, 2) := by decide +kernel
theorem d_law_law_1241 : decode code 1241 = .ok (.iconst 1, 1) := by decide +kernel
theorem d_law_law_1242 : decode code 1242 = .ok (.iadd, 1) := by decide +kernel
theorem d_law_law_1243 : decode code 1243 = .ok (.iaload, 1) := by decide +kernel
theorem d_law_law_1244 : decode code 1244 = .ok (.aload_n 0, 1) := by decide +kernel
theorem d_law_law_1245 : decode code 1245 = .ok (.iload 4, 2) := by decide +kernel
theorem d_law_law_1247 : decode code 1247 = .ok (.iconst 2, 1) := by decide +kernel
theorem d_law_law_1248 : decode code 1248 = .ok (.iadd, 1) := by decide +kernel
theorem d_law_law_1249 : decode code 1249 = .ok (.iaload, 1) := by decide +kernel
theorem d_law_law_1250 : decode code 1250 = .ok (.aload_n 3, 1) := by decide +kernel
theorem d_law_law_1251 : decode code 1251 = .ok (.invokestatic 151, 3) := by decide +kernel
theorem d_law_law_1254 : decode code 1254 = .ok (.istore 5, 2) := by decide +kernel
theorem d_law_law_1256 : decode code 1256 = .ok (.aload_n 2, 1) := by decide +kernel
theorem d_law_law_1257 : decode code 1257 = .ok (.aload_n 0, 1) := by decide +kernel
theorem d_law_law_1258 : decode code 1258 = .ok (.iload 4, 2) := by decide +kernel
theorem d_law_law_1260 : decode code 1260 = .ok (.iconst 1, 1) := by decide +kernel
theorem d_law_law_1261 : decode code 1261 = .ok (.iadd, 1) := by decide +kernel
theorem d_law_law_1262 : decode code 1262 = .ok (.iaload, 1) := by decide +kernel
theorem d_law_law_1263 : decode code 1263 = .ok (.aload_n 0, 1) := by decide +kernel
theorem d_law_law_1264 : decode code 1264 = .ok (.iload 4, 2) := by decide +kernel
theorem d_law_law_1266 : decode code 1266 = .ok (.iconst 2, 1) := by decide +kernel
theorem d_law_law_1267 : decode code 1267 = .ok (.iadd, 1) := by decide +kernel
theorem d_law_law_1268 : decode code 1268 = .ok (.iaload, 1) := by decide +kernel
theorem d_law_law_1269 : decode code 1269 = .ok (.invokevirtual 153, 3) := by decide +kernel
theorem d_law_law_1272 : decode code 1272 = .ok (.istore 6, 2) := by decide +kernel
theorem d_law_law_1274 : decode code 1274 = .ok (.aload_n 2, 1) := by decide +kernel
theorem d_law_law_1275 : decode code 1275 = .ok (.invokevirtual 97, 3) := by decide +kernel
theorem d_law_law_1278 : decode code 1278 = .ok (.iload 5, 2) := by decide +kernel
theorem d_law_law_1280 : decode code 1280 = .ok (.if_icmp .eq 5, 3) := by decide +kernel
theorem d_law_law_1283 : decode code 1283 = .ok (.iconst 0, 1) := by decide +kernel
theorem d_law_law_1284 : decode code 1284 = .ok (.ireturn, 1) := by decide +kernel
theorem d_law_law_1285 : decode code 1285 = .ok (.iload 5, 2) := by decide +kernel
theorem d_law_law_1287 : decode code 1287 = .ok (.ifCond .ne 15, 3) := by decide +kernel
theorem d_law_law_1290 : decode code 1290 = .ok (.aload_n 3, 1) := by decide +kernel
theorem d_law_law_1291 : decode code 1291 = .ok (.iconst 0, 1) := by decide +kernel
theorem d_law_law_1292 : decode code 1292 = .ok (.laload, 1) := by decide +kernel
theorem d_law_law_1293 : decode code 1293 = .ok (.iload 6, 2) := by decide +kernel
theorem d_law_law_1295 : decode code 1295 = .ok (.i2l, 1) := by decide +kernel
theorem d_law_law_1296 : decode code 1296 = .ok (.lcmp, 1) := by decide +kernel
theorem d_law_law_1297 : decode code 1297 = .ok (.ifCond .eq 5, 3) := by decide +kernel
theorem d_law_law_1300 : decode code 1300 = .ok (.iconst 0, 1) := by decide +kernel
theorem d_law_law_1301 : decode code 1301 = .ok (.ireturn, 1) := by decide +kernel
theorem d_law_law_1302 : decode code 1302 = .ok (.goto 319, 3) := by decide +kernel
theorem d_law_law_1305 : decode code 1305 = .ok (.aload_n 1, 1) := by decide +kernel
theorem d_law_law_1306 : decode code 1306 = .ok (.aload_n 0, 1) := by decide +kernel
theorem d_law_law_1307 : decode code 1307 = .ok (.iload 4, 2) := by decide +kernel
theorem d_law_law_1309 : decode code 1309 = .ok (.iconst 1, 1) := by decide +kernel
theorem d_law_law_1310 : decode code 1310 = .ok (.iadd, 1) := by decide +kernel
theorem d_law_law_1311 : decode code 1311 = .ok (.iaload, 1) := by decide +kernel
theorem d_law_law_1312 : decode code 1312 = .ok (.aload_n 0, 1) := by decide +kernel
theorem d_law_law_1313 : decode code 1313 = .ok (.iload 4, 2) := by decide +kernel
theorem d_law_law_1315 : decode code 1315 = .ok (.iconst 2, 1) := by decide +kernel
theorem d_law_law_1316 : decode code 1316 = .ok (.iadd, 1) := by decide +kernel
theorem d_law_law_1317 : decode code 1317 = .ok (.iaload, 1) := by decide +kernel
theorem d_law_law_1318 : decode code 1318 = .ok (.aload_n 0, 1) := by decide +kernel
theorem d_law_law_1319 : decode code 1319 = .ok (.iload 4, 2) := by decide +kernel
theorem d_law_law_1321 : decode code 1321 = .ok (.iconst 3, 1) := by decide +kernel
theorem d_law_law_1322 : decode code 1322 = .ok (.iadd, 1) := by decide +kernel
theorem d_law_law_1323 : decode code 1323 = .ok (.iaload, 1) := by decide +kernel
theorem d_law_law_1324 : decode code 1324 = .ok (.aload_n 3, 1) := by decide +kernel
theorem d_law_law_1325 : decode code 1325 = .ok (.invokestatic 154, 3) := by decide +kernel
theorem d_law_law_1328 : decode code 1328 = .ok (.istore 5, 2) := by decide +kernel
theorem d_law_law_1330 : decode code 1330 = .ok (.aload_n 2, 1) := by decide +kernel
theorem d_law_law_1331 : decode code 1331 = .ok (.aload_n 0, 1) := by decide +kernel
theorem d_law_law_1332 : decode code 1332 = .ok (.iload 4, 2) := by decide +kernel
theorem d_law_law_1334 : decode code 1334 = .ok (.iconst 1, 1) := by decide +kernel
theorem d_law_law_1335 : decode code 1335 = .ok (.iadd, 1) := by decide +kernel
theorem d_law_law_1336 : decode code 1336 = .ok (.iaload, 1) := by decide +kernel
theorem d_law_law_1337 : decode code 1337 = .ok (.aload_n 0, 1) := by decide +kernel
theorem d_law_law_1338 : decode code 1338 = .ok (.iload 4, 2) := by decide +kernel
theorem d_law_law_1340 : decode code 1340 = .ok (.iconst 2, 1) := by decide +kernel
theorem d_law_law_1341 : decode code 1341 = .ok (.iadd, 1) := by decide +kernel
theorem d_law_law_1342 : decode code 1342 = .ok (.iaload, 1) := by decide +kernel
theorem d_law_law_1343 : decode code 1343 = .ok (.aload_n 0, 1) := by decide +kernel
theorem d_law_law_1344 : decode code 1344 = .ok (.iload 4, 2) := by decide +kernel
theorem d_law_law_1346 : decode code 1346 = .ok (.iconst 3, 1) := by decide +kernel
theorem d_law_law_1347 : decode code 1347 = .ok (.iadd, 1) := by decide +kernel
theorem d_law_law_1348 : decode code 1348 = .ok (.iaload, 1) := by decide +kernel
theorem d_law_law_1349 : decode code 1349 = .ok (.invokevirtual 156, 3) := by decide +kernel
theorem d_law_law_1352 : decode code 1352 = .ok (.istore 6, 2) := by decide +kernel
theorem d_law_law_1354 : decode code 1354 = .ok (.aload_n 2, 1) := by decide +kernel
theorem d_law_law_1355 : decode code 1355 = .ok (.invokevirtual 97, 3) := by decide +kernel
theorem d_law_law_1358 : decode code 1358 = .ok (.iload 5, 2) := by decide +kernel
theorem d_law_law_1360 : decode code 1360 = .ok (.if_icmp .eq 5, 3) := by decide +kernel
theorem d_law_law_1363 : decode code 1363 = .ok (.iconst 0, 1) := by decide +kernel
theorem d_law_law_1364 : decode code 1364 = .ok (.ireturn, 1) := by decide +kernel
theorem d_law_law_1365 : decode code 1365 = .ok (.iload 5, 2) := by decide +kernel
theorem d_law_law_1367 : decode code 1367 = .ok (.ifCond .ne 15, 3) := by decide +kernel
theorem d_law_law_1370 : decode code 1370 = .ok (.aload_n 3, 1) := by decide +kernel
theorem d_law_law_1371 : decode code 1371 = .ok (.iconst 0, 1) := by decide +kernel
theorem d_law_law_1372 : decode code 1372 = .ok (.laload, 1) := by decide +kernel
theorem d_law_law_1373 : decode code 1373 = .ok (.iload 6, 2) := by decide +kernel
theorem d_law_law_1375 : decode code 1375 = .ok (.i2l, 1) := by decide +kernel
theorem d_law_law_1376 : decode code 1376 = .ok (.lcmp, 1) := by decide +kernel
theorem d_law_law_1377 : decode code 1377 = .ok (.ifCond .eq 5, 3) := by decide +kernel
theorem d_law_law_1380 : decode code 1380 = .ok (.iconst 0, 1) := by decide +kernel
theorem d_law_law_1381 : decode code 1381 = .ok (.ireturn, 1) := by decide +kernel
theorem d_law_law_1382 : decode code 1382 = .ok (.goto 239, 3) := by decide +kernel
theorem d_law_law_1385 : decode code 1385 = .ok (.aload_n 1, 1) := by decide +kernel
theorem d_law_law_1386 : decode code 1386 = .ok (.aload_n 0, 1) := by decide +kernel
theorem d_law_law_1387 : decode code 1387 = .ok (.iload 4, 2) := by decide +kernel
theorem d_law_law_1389 : decode code 1389 = .ok (.iconst 1, 1) := by decide +kernel
theorem d_law_law_1390 : decode code 1390 = .ok (.iadd, 1) := by decide +kernel
theorem d_law_law_1391 : decode code 1391 = .ok (.iaload, 1) := by decide +kernel
theorem d_law_law_1392 : decode code 1392 = .ok (.aload_n 0, 1) := by decide +kernel
theorem d_law_law_1393 : decode code 1393 = .ok (.iload 4, 2) := by decide +kernel
theorem d_law_law_1395 : decode code 1395 = .ok (.iconst 2, 1) := by decide +kernel
theorem d_law_law_1396 : decode code 1396 = .ok (.iadd, 1) := by decide +kernel
theorem d_law_law_1397 : decode code 1397 = .ok (.iaload, 1) := by decide +kernel
theorem d_law_law_1398 : decode code 1398 = .ok (.aload_n 0, 1) := by decide +kernel
theorem d_law_law_1399 : decode code 1399 = .ok (.iload 4, 2) := by decide +kernel
theorem d_law_law_1401 : decode code 1401 = .ok (.iconst 3, 1) := by decide +kernel
theorem d_law_law_1402 : decode code 1402 = .ok (.iadd, 1) := by decide +kernel
theorem d_law_law_1403 : decode code 1403 = .ok (.iaload, 1) := by decide +kernel
theorem d_law_law_1404 : decode code 1404 = .ok (.aload_n 3, 1) := by decide +kernel
theorem d_law_law_1405 : decode code 1405 = .ok (.invokestatic 157, 3) := by decide +kernel
theorem d_law_law_1408 : decode code 1408 = .ok (.istore 5, 2) := by decide +kernel
theorem d_law_law_1410 : decode code 1410 = .ok (.aload_n 2, 1) := by decide +kernel
theorem d_law_law_1411 : decode code 1411 = .ok (.aload_n 0, 1) := by decide +kernel
theorem d_law_law_1412 : decode code 1412 = .ok (.iload 4, 2) := by decide +kernel
theorem d_law_law_1414 : decode code 1414 = .ok (.iconst 1, 1) := by decide +kernel
theorem d_law_law_1415 : decode code 1415 = .ok (.iadd, 1) := by decide +kernel
theorem d_law_law_1416 : decode code 1416 = .ok (.iaload, 1) := by decide +kernel
theorem d_law_law_1417 : decode code 1417 = .ok (.aload_n 0, 1) := by decide +kernel
theorem d_law_law_1418 : decode code 1418 = .ok (.iload 4, 2) := by decide +kernel
theorem d_law_law_1420 : decode code 1420 = .ok (.iconst 2, 1) := by decide +kernel
theorem d_law_law_1421 : decode code 1421 = .ok (.iadd, 1) := by decide +kernel
theorem d_law_law_1422 : decode code 1422 = .ok (.iaload, 1) := by decide +kernel
theorem d_law_law_1423 : decode code 1423 = .ok (.aload_n 0, 1) := by decide +kernel
theorem d_law_law_1424 : decode code 1424 = .ok (.iload 4, 2) := by decide +kernel
theorem d_law_law_1426 : decode code 1426 = .ok (.iconst 3, 1) := by decide +kernel
theorem d_law_law_1427 : decode code 1427 = .ok (.iadd, 1) := by decide +kernel
theorem d_law_law_1428 : decode code 1428 = .ok (.iaload, 1) := by decide +kernel
theorem d_law_law_1429 : decode code 1429 = .ok (.invokevirtual 159, 3) := by decide +kernel
theorem d_law_law_1432 : decode code 1432 = .ok (.istore 6, 2) := by decide +kernel
theorem d_law_law_1434 : decode code 1434 = .ok (.aload_n 2, 1) := by decide +kernel
theorem d_law_law_1435 : decode code 1435 = .ok (.invokevirtual 97, 3) := by decide +kernel
theorem d_law_law_1438 : decode code 1438 = .ok (.iload 5, 2) := by decide +kernel
theorem d_law_law_1440 : decode code 1440 = .ok (.if_icmp .eq 5, 3) := by decide +kernel
theorem d_law_law_1443 : decode code 1443 = .ok (.iconst 0, 1) := by decide +kernel
theorem d_law_law_1444 : decode code 1444 = .ok (.ireturn, 1) := by decide +kernel
theorem d_law_law_1445 : decode code 1445 = .ok (.iload 5, 2) := by decide +kernel
