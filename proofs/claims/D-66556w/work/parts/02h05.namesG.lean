set_option maxRecDepth 100000
theorem dL_law_1250 : decode cL_law 1250 = .ok (.iconst 0, 1) := by decide +kernel
theorem dL_law_1251 : decode cL_law 1251 = .ok (.ireturn, 1) := by decide +kernel
theorem dL_law_1252 : decode cL_law 1252 = .ok (.goto 202, 3) := by decide +kernel
theorem dL_law_1255 : decode cL_law 1255 = .ok (.aload_n 1, 1) := by decide +kernel
theorem dL_law_1256 : decode cL_law 1256 = .ok (.aload_n 0, 1) := by decide +kernel
theorem dL_law_1257 : decode cL_law 1257 = .ok (.iload 4, 2) := by decide +kernel
theorem dL_law_1259 : decode cL_law 1259 = .ok (.iconst 1, 1) := by decide +kernel
theorem dL_law_1260 : decode cL_law 1260 = .ok (.iadd, 1) := by decide +kernel
theorem dL_law_1261 : decode cL_law 1261 = .ok (.iaload, 1) := by decide +kernel
theorem dL_law_1262 : decode cL_law 1262 = .ok (.aload_n 0, 1) := by decide +kernel
theorem dL_law_1263 : decode cL_law 1263 = .ok (.iload 4, 2) := by decide +kernel
theorem dL_law_1265 : decode cL_law 1265 = .ok (.iconst 2, 1) := by decide +kernel
theorem dL_law_1266 : decode cL_law 1266 = .ok (.iadd, 1) := by decide +kernel
theorem dL_law_1267 : decode cL_law 1267 = .ok (.iaload, 1) := by decide +kernel
theorem dL_law_1268 : decode cL_law 1268 = .ok (.aload_n 3, 1) := by decide +kernel
theorem dL_law_1269 : decode cL_law 1269 = .ok (.invokestatic 154, 3) := by decide +kernel
theorem dL_law_1272 : decode cL_law 1272 = .ok (.istore 5, 2) := by decide +kernel
theorem dL_law_1274 : decode cL_law 1274 = .ok (.aload_n 2, 1) := by decide +kernel
theorem dL_law_1275 : decode cL_law 1275 = .ok (.aload_n 0, 1) := by decide +kernel
theorem dL_law_1276 : decode cL_law 1276 = .ok (.iload 4, 2) := by decide +kernel
theorem dL_law_1278 : decode cL_law 1278 = .ok (.iconst 1, 1) := by decide +kernel
theorem dL_law_1279 : decode cL_law 1279 = .ok (.iadd, 1) := by decide +kernel
theorem dL_law_1280 : decode cL_law 1280 = .ok (.iaload, 1) := by decide +kernel
theorem dL_law_1281 : decode cL_law 1281 = .ok (.aload_n 0, 1) := by decide +kernel
theorem dL_law_1282 : decode cL_law 1282 = .ok (.iload 4, 2) := by decide +kernel
theorem dL_law_1284 : decode cL_law 1284 = .ok (.iconst 2, 1) := by decide +kernel
theorem dL_law_1285 : decode cL_law 1285 = .ok (.iadd, 1) := by decide +kernel
theorem dL_law_1286 : decode cL_law 1286 = .ok (.iaload, 1) := by decide +kernel
theorem dL_law_1287 : decode cL_law 1287 = .ok (.invokevirtual 156, 3) := by decide +kernel
theorem dL_law_1290 : decode cL_law 1290 = .ok (.istore 6, 2) := by decide +kernel
theorem dL_law_1292 : decode cL_law 1292 = .ok (.aload_n 2, 1) := by decide +kernel
theorem dL_law_1293 : decode cL_law 1293 = .ok (.invokevirtual 94, 3) := by decide +kernel
theorem dL_law_1296 : decode cL_law 1296 = .ok (.iload 5, 2) := by decide +kernel
theorem dL_law_1298 : decode cL_law 1298 = .ok (.if_icmp .eq 5, 3) := by decide +kernel
theorem dL_law_1301 : decode cL_law 1301 = .ok (.iconst 0, 1) := by decide +kernel
theorem dL_law_1302 : decode cL_law 1302 = .ok (.ireturn, 1) := by decide +kernel
theorem dL_law_1303 : decode cL_law 1303 = .ok (.iload 5, 2) := by decide +kernel
theorem dL_law_1305 : decode cL_law 1305 = .ok (.ifCond .ne 22, 3) := by decide +kernel
theorem dL_law_1308 : decode cL_law 1308 = .ok (.aload_n 3, 1) := by decide +kernel
theorem dL_law_1309 : decode cL_law 1309 = .ok (.iconst 0, 1) := by decide +kernel
theorem dL_law_1310 : decode cL_law 1310 = .ok (.laload, 1) := by decide +kernel
theorem dL_law_1311 : decode cL_law 1311 = .ok (.iload 6, 2) := by decide +kernel
theorem dL_law_1313 : decode cL_law 1313 = .ok (.ifCond .eq 7, 3) := by decide +kernel
theorem dL_law_1316 : decode cL_law 1316 = .ok (.lconst 1, 1) := by decide +kernel
theorem dL_law_1317 : decode cL_law 1317 = .ok (.goto 4, 3) := by decide +kernel
theorem dL_law_1320 : decode cL_law 1320 = .ok (.lconst 0, 1) := by decide +kernel
theorem dL_law_1321 : decode cL_law 1321 = .ok (.lcmp, 1) := by decide +kernel
theorem dL_law_1322 : decode cL_law 1322 = .ok (.ifCond .eq 5, 3) := by decide +kernel
theorem dL_law_1325 : decode cL_law 1325 = .ok (.iconst 0, 1) := by decide +kernel
theorem dL_law_1326 : decode cL_law 1326 = .ok (.ireturn, 1) := by decide +kernel
theorem dL_law_1327 : decode cL_law 1327 = .ok (.goto 127, 3) := by decide +kernel
theorem dL_law_1330 : decode cL_law 1330 = .ok (.aload_n 1, 1) := by decide +kernel
theorem dL_law_1331 : decode cL_law 1331 = .ok (.aload_n 0, 1) := by decide +kernel
theorem dL_law_1332 : decode cL_law 1332 = .ok (.iload 4, 2) := by decide +kernel
theorem dL_law_1334 : decode cL_law 1334 = .ok (.iconst 1, 1) := by decide +kernel
theorem dL_law_1335 : decode cL_law 1335 = .ok (.iadd, 1) := by decide +kernel
theorem dL_law_1336 : decode cL_law 1336 = .ok (.iaload, 1) := by decide +kernel
theorem dL_law_1337 : decode cL_law 1337 = .ok (.aload_n 3, 1) := by decide +kernel
theorem dL_law_1338 : decode cL_law 1338 = .ok (.invokestatic 157, 3) := by decide +kernel
theorem dL_law_1341 : decode cL_law 1341 = .ok (.istore 5, 2) := by decide +kernel
theorem dL_law_1343 : decode cL_law 1343 = .ok (.aload_n 2, 1) := by decide +kernel
theorem dL_law_1344 : decode cL_law 1344 = .ok (.aload_n 0, 1) := by decide +kernel
theorem dL_law_1345 : decode cL_law 1345 = .ok (.iload 4, 2) := by decide +kernel
theorem dL_law_1347 : decode cL_law 1347 = .ok (.iconst 1, 1) := by decide +kernel
theorem dL_law_1348 : decode cL_law 1348 = .ok (.iadd, 1) := by decide +kernel
theorem dL_law_1349 : decode cL_law 1349 = .ok (.iaload, 1) := by decide +kernel
theorem dL_law_1350 : decode cL_law 1350 = .ok (.invokevirtual 159, 3) := by decide +kernel
theorem dL_law_1353 : decode cL_law 1353 = .ok (.istore 6, 2) := by decide +kernel
theorem dL_law_1355 : decode cL_law 1355 = .ok (.aload_n 2, 1) := by decide +kernel
theorem dL_law_1356 : decode cL_law 1356 = .ok (.invokevirtual 94, 3) := by decide +kernel
theorem dL_law_1359 : decode cL_law 1359 = .ok (.iload 5, 2) := by decide +kernel
theorem dL_law_1361 : decode cL_law 1361 = .ok (.if_icmp .eq 5, 3) := by decide +kernel
theorem dL_law_1364 : decode cL_law 1364 = .ok (.iconst 0, 1) := by decide +kernel
theorem dL_law_1365 : decode cL_law 1365 = .ok (.ireturn, 1) := by decide +kernel
theorem dL_law_1366 : decode cL_law 1366 = .ok (.iload 5, 2) := by decide +kernel
theorem dL_law_1368 : decode cL_law 1368 = .ok (.ifCond .ne 15, 3) := by decide +kernel
theorem dL_law_1371 : decode cL_law 1371 = .ok (.aload_n 3, 1) := by decide +kernel
theorem dL_law_1372 : decode cL_law 1372 = .ok (.iconst 0, 1) := by decide +kernel
theorem dL_law_1373 : decode cL_law 1373 = .ok (.laload, 1) := by decide +kernel
theorem dL_law_1374 : decode cL_law 1374 = .ok (.iload 6, 2) := by decide +kernel
theorem dL_law_1376 : decode cL_law 1376 = .ok (.i2l, 1) := by decide +kernel
theorem dL_law_1377 : decode cL_law 1377 = .ok (.lcmp, 1) := by decide +kernel
theorem dL_law_1378 : decode cL_law 1378 = .ok (.ifCond .eq 5, 3) := by decide +kernel
theorem dL_law_1381 : decode cL_law 1381 = .ok (.iconst 0, 1) := by decide +kernel
theorem dL_law_1382 : decode cL_law 1382 = .ok (.ireturn, 1) := by decide +kernel
theorem dL_law_1383 : decode cL_law 1383 = .ok (.goto 71, 3) := by decide +kernel
theorem dL_law_1386 : decode cL_law 1386 = .ok (.aload_n 1, 1) := by decide +kernel
theorem dL_law_1387 : decode cL_law 1387 = .ok (.aload_n 0, 1) := by decide +kernel
theorem dL_law_1388 : decode cL_law 1388 = .ok (.iload 4, 2) := by decide +kernel
theorem dL_law_1390 : decode cL_law 1390 = .ok (.iconst 1, 1) := by decide +kernel
theorem dL_law_1391 : decode cL_law 1391 = .ok (.iadd, 1) := by decide +kernel
theorem dL_law_1392 : decode cL_law 1392 = .ok (.iaload, 1) := by decide +kernel
theorem dL_law_1393 : decode cL_law 1393 = .ok (.aload_n 0, 1) := by decide +kernel
theorem dL_law_1394 : decode cL_law 1394 = .ok (.iload 4, 2) := by decide +kernel
theorem dL_law_1396 : decode cL_law 1396 = .ok (.iconst 2, 1) := by decide +kernel
theorem dL_law_1397 : decode cL_law 1397 = .ok (.iadd, 1) := by decide +kernel
theorem dL_law_1398 : decode cL_law 1398 = .ok (.iaload, 1) := by decide +kernel
theorem dL_law_1399 : decode cL_law 1399 = .ok (.aload_n 3, 1) := by decide +kernel
theorem dL_law_1400 : decode cL_law 1400 = .ok (.invokestatic 160, 3) := by decide +kernel
theorem dL_law_1403 : decode cL_law 1403 = .ok (.istore 5, 2) := by decide +kernel
theorem dL_law_1405 : decode cL_law 1405 = .ok (.aload_n 2, 1) := by decide +kernel
theorem dL_law_1406 : decode cL_law 1406 = .ok (.aload_n 0, 1) := by decide +kernel
theorem dL_law_1407 : decode cL_law 1407 = .ok (.iload 4, 2) := by decide +kernel
theorem dL_law_1409 : decode cL_law 1409 = .ok (.iconst 1, 1) := by decide +kernel
theorem dL_law_1410 : decode cL_law 1410 = .ok (.iadd, 1) := by decide +kernel
theorem dL_law_1411 : decode cL_law 1411 = .ok (.iaload, 1) := by decide +kernel
theorem dL_law_1412 : decode cL_law 1412 = .ok (.aload_n 0, 1) := by decide +kernel
theorem dL_law_1413 : decode cL_law 1413 = .ok (.iload 4, 2) := by decide +kernel
theorem dL_law_1415 : decode cL_law 1415 = .ok (.iconst 2, 1) := by decide +kernel
theorem dL_law_1416 : decode cL_law 1416 = .ok (.iadd, 1) := by decide +kernel
theorem dL_law_1417 : decode cL_law 1417 = .ok (.iaload, 1) := by decide +kernel
theorem dL_law_1418 : decode cL_law 1418 = .ok (.invokevirtual 162, 3) := by decide +kernel
theorem dL_law_1421 : decode cL_law 1421 = .ok (.istore 6, 2) := by decide +kernel
theorem dL_law_1423 : decode cL_law 1423 = .ok (.aload_n 2, 1) := by decide +kernel
theorem dL_law_1424 : decode cL_law 1424 = .ok (.invokevirtual 94, 3) := by decide +kernel
theorem dL_law_1427 : decode cL_law 1427 = .ok (.iload 5, 2) := by decide +kernel
theorem dL_law_1429 : decode cL_law 1429 = .ok (.if_icmp .eq 5, 3) := by decide +kernel
theorem dL_law_1432 : decode cL_law 1432 = .ok (.iconst 0, 1) := by decide +kernel
theorem dL_law_1433 : decode cL_law 1433 = .ok (.ireturn, 1) := by decide +kernel
theorem dL_law_1434 : decode cL_law 1434 = .ok (.iload 5, 2) := by decide +kernel
theorem dL_law_1436 : decode cL_law 1436 = .ok (.ifCond .ne 15, 3) := by decide +kernel
theorem dL_law_1439 : decode cL_law 1439 = .ok (.aload_n 3, 1) := by decide +kernel
theorem dL_law_1440 : decode cL_law 1440 = .ok (.iconst 0, 1) := by decide +kernel
theorem dL_law_1441 : decode cL_law 1441 = .ok (.laload, 1) := by decide +kernel
theorem dL_law_1442 : decode cL_law 1442 = .ok (.iload 6, 2) := by decide +kernel
theorem dL_law_1444 : decode cL_law 1444 = .ok (.i2l, 1) := by decide +kernel
theorem dL_law_1445 : decode cL_law 1445 = .ok (.lcmp, 1) := by decide +kernel
theorem dL_law_1446 : decode cL_law 1446 = .ok (.ifCond .eq 5, 3) := by decide +kernel
theorem dL_law_1449 : decode cL_law 1449 = .ok (.iconst 0, 1) := by decide +kernel
theorem dL_law_1450 : decode cL_law 1450 = .ok (.ireturn, 1) := by decide +kernel
theorem dL_law_1451 : decode cL_law 1451 = .ok (.goto 3, 3) := by decide +kernel
theorem dL_law_1454 : decode cL_law 1454 = .ok (.iinc 4 6, 3) := by decide +kernel
theorem dL_law_1457 : decode cL_law 1457 = .ok (.goto (-1434), 3) := by decide +kernel
theorem dL_law_1460 : decode cL_law 1460 = .ok (.iconst 1, 1) := by decide +kernel
theorem dL_law_1461 : decode cL_law 1461 = .ok (.ireturn, 1) := by decide +kernel
