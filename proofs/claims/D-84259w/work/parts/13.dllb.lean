set_option maxRecDepth 100000
theorem dL_law_1154 : decode cL_law 1154 = .ok (.iload 6, 2) := by decide +kernel
theorem dL_law_1156 : decode cL_law 1156 = .ok (.i2l, 1) := by decide +kernel
theorem dL_law_1157 : decode cL_law 1157 = .ok (.lcmp, 1) := by decide +kernel
theorem dL_law_1158 : decode cL_law 1158 = .ok (.ifCond .eq 5, 3) := by decide +kernel
theorem dL_law_1161 : decode cL_law 1161 = .ok (.iconst 0, 1) := by decide +kernel
theorem dL_law_1162 : decode cL_law 1162 = .ok (.ireturn, 1) := by decide +kernel
theorem dL_law_1163 : decode cL_law 1163 = .ok (.goto 578, 3) := by decide +kernel
theorem dL_law_1166 : decode cL_law 1166 = .ok (.aload_n 1, 1) := by decide +kernel
theorem dL_law_1167 : decode cL_law 1167 = .ok (.aload_n 0, 1) := by decide +kernel
theorem dL_law_1168 : decode cL_law 1168 = .ok (.iload 4, 2) := by decide +kernel
theorem dL_law_1170 : decode cL_law 1170 = .ok (.iconst 1, 1) := by decide +kernel
theorem dL_law_1171 : decode cL_law 1171 = .ok (.iadd, 1) := by decide +kernel
theorem dL_law_1172 : decode cL_law 1172 = .ok (.iaload, 1) := by decide +kernel
theorem dL_law_1173 : decode cL_law 1173 = .ok (.aload_n 0, 1) := by decide +kernel
theorem dL_law_1174 : decode cL_law 1174 = .ok (.iload 4, 2) := by decide +kernel
theorem dL_law_1176 : decode cL_law 1176 = .ok (.iconst 2, 1) := by decide +kernel
theorem dL_law_1177 : decode cL_law 1177 = .ok (.iadd, 1) := by decide +kernel
theorem dL_law_1178 : decode cL_law 1178 = .ok (.iaload, 1) := by decide +kernel
theorem dL_law_1179 : decode cL_law 1179 = .ok (.aload_n 0, 1) := by decide +kernel
theorem dL_law_1180 : decode cL_law 1180 = .ok (.iload 4, 2) := by decide +kernel
theorem dL_law_1182 : decode cL_law 1182 = .ok (.iconst 3, 1) := by decide +kernel
theorem dL_law_1183 : decode cL_law 1183 = .ok (.iadd, 1) := by decide +kernel
theorem dL_law_1184 : decode cL_law 1184 = .ok (.iaload, 1) := by decide +kernel
theorem dL_law_1185 : decode cL_law 1185 = .ok (.aload_n 0, 1) := by decide +kernel
theorem dL_law_1186 : decode cL_law 1186 = .ok (.iload 4, 2) := by decide +kernel
theorem dL_law_1188 : decode cL_law 1188 = .ok (.iconst 4, 1) := by decide +kernel
theorem dL_law_1189 : decode cL_law 1189 = .ok (.iadd, 1) := by decide +kernel
theorem dL_law_1190 : decode cL_law 1190 = .ok (.iaload, 1) := by decide +kernel
theorem dL_law_1191 : decode cL_law 1191 = .ok (.invokestatic 152, 3) := by decide +kernel
theorem dL_law_1194 : decode cL_law 1194 = .ok (.istore 5, 2) := by decide +kernel
theorem dL_law_1196 : decode cL_law 1196 = .ok (.aload_n 2, 1) := by decide +kernel
theorem dL_law_1197 : decode cL_law 1197 = .ok (.aload_n 0, 1) := by decide +kernel
theorem dL_law_1198 : decode cL_law 1198 = .ok (.iload 4, 2) := by decide +kernel
theorem dL_law_1200 : decode cL_law 1200 = .ok (.iconst 1, 1) := by decide +kernel
theorem dL_law_1201 : decode cL_law 1201 = .ok (.iadd, 1) := by decide +kernel
theorem dL_law_1202 : decode cL_law 1202 = .ok (.iaload, 1) := by decide +kernel
theorem dL_law_1203 : decode cL_law 1203 = .ok (.aload_n 0, 1) := by decide +kernel
theorem dL_law_1204 : decode cL_law 1204 = .ok (.iload 4, 2) := by decide +kernel
theorem dL_law_1206 : decode cL_law 1206 = .ok (.iconst 2, 1) := by decide +kernel
theorem dL_law_1207 : decode cL_law 1207 = .ok (.iadd, 1) := by decide +kernel
theorem dL_law_1208 : decode cL_law 1208 = .ok (.iaload, 1) := by decide +kernel
theorem dL_law_1209 : decode cL_law 1209 = .ok (.aload_n 0, 1) := by decide +kernel
theorem dL_law_1210 : decode cL_law 1210 = .ok (.iload 4, 2) := by decide +kernel
theorem dL_law_1212 : decode cL_law 1212 = .ok (.iconst 3, 1) := by decide +kernel
theorem dL_law_1213 : decode cL_law 1213 = .ok (.iadd, 1) := by decide +kernel
theorem dL_law_1214 : decode cL_law 1214 = .ok (.iaload, 1) := by decide +kernel
theorem dL_law_1215 : decode cL_law 1215 = .ok (.aload_n 0, 1) := by decide +kernel
theorem dL_law_1216 : decode cL_law 1216 = .ok (.iload 4, 2) := by decide +kernel
theorem dL_law_1218 : decode cL_law 1218 = .ok (.iconst 4, 1) := by decide +kernel
theorem dL_law_1219 : decode cL_law 1219 = .ok (.iadd, 1) := by decide +kernel
theorem dL_law_1220 : decode cL_law 1220 = .ok (.iaload, 1) := by decide +kernel
theorem dL_law_1221 : decode cL_law 1221 = .ok (.invokevirtual 154, 3) := by decide +kernel
theorem dL_law_1224 : decode cL_law 1224 = .ok (.aload_n 2, 1) := by decide +kernel
theorem dL_law_1225 : decode cL_law 1225 = .ok (.invokevirtual 108, 3) := by decide +kernel
theorem dL_law_1228 : decode cL_law 1228 = .ok (.iload 5, 2) := by decide +kernel
theorem dL_law_1230 : decode cL_law 1230 = .ok (.if_icmp .eq 5, 3) := by decide +kernel
theorem dL_law_1233 : decode cL_law 1233 = .ok (.iconst 0, 1) := by decide +kernel
theorem dL_law_1234 : decode cL_law 1234 = .ok (.ireturn, 1) := by decide +kernel
theorem dL_law_1235 : decode cL_law 1235 = .ok (.goto 506, 3) := by decide +kernel
theorem dL_law_1238 : decode cL_law 1238 = .ok (.aload_n 1, 1) := by decide +kernel
theorem dL_law_1239 : decode cL_law 1239 = .ok (.aload_n 0, 1) := by decide +kernel
theorem dL_law_1240 : decode cL_law 1240 = .ok (.iload 4, 2) := by decide +kernel
theorem dL_law_1242 : decode cL_law 1242 = .ok (.iconst 1, 1) := by decide +kernel
theorem dL_law_1243 : decode cL_law 1243 = .ok (.iadd, 1) := by decide +kernel
theorem dL_law_1244 : decode cL_law 1244 = .ok (.iaload, 1) := by decide +kernel
theorem dL_law_1245 : decode cL_law 1245 = .ok (.aload_n 3, 1) := by decide +kernel
theorem dL_law_1246 : decode cL_law 1246 = .ok (.invokestatic 155, 3) := by decide +kernel
theorem dL_law_1249 : decode cL_law 1249 = .ok (.istore 5, 2) := by decide +kernel
theorem dL_law_1251 : decode cL_law 1251 = .ok (.aload_n 2, 1) := by decide +kernel
theorem dL_law_1252 : decode cL_law 1252 = .ok (.aload_n 0, 1) := by decide +kernel
theorem dL_law_1253 : decode cL_law 1253 = .ok (.iload 4, 2) := by decide +kernel
theorem dL_law_1255 : decode cL_law 1255 = .ok (.iconst 1, 1) := by decide +kernel
theorem dL_law_1256 : decode cL_law 1256 = .ok (.iadd, 1) := by decide +kernel
theorem dL_law_1257 : decode cL_law 1257 = .ok (.iaload, 1) := by decide +kernel
theorem dL_law_1258 : decode cL_law 1258 = .ok (.invokevirtual 157, 3) := by decide +kernel
theorem dL_law_1261 : decode cL_law 1261 = .ok (.istore 6, 2) := by decide +kernel
theorem dL_law_1263 : decode cL_law 1263 = .ok (.aload_n 2, 1) := by decide +kernel
theorem dL_law_1264 : decode cL_law 1264 = .ok (.invokevirtual 108, 3) := by decide +kernel
theorem dL_law_1267 : decode cL_law 1267 = .ok (.iload 5, 2) := by decide +kernel
theorem dL_law_1269 : decode cL_law 1269 = .ok (.if_icmp .eq 5, 3) := by decide +kernel
theorem dL_law_1272 : decode cL_law 1272 = .ok (.iconst 0, 1) := by decide +kernel
theorem dL_law_1273 : decode cL_law 1273 = .ok (.ireturn, 1) := by decide +kernel
theorem dL_law_1274 : decode cL_law 1274 = .ok (.iload 5, 2) := by decide +kernel
theorem dL_law_1276 : decode cL_law 1276 = .ok (.ifCond .ne 15, 3) := by decide +kernel
theorem dL_law_1279 : decode cL_law 1279 = .ok (.aload_n 3, 1) := by decide +kernel
theorem dL_law_1280 : decode cL_law 1280 = .ok (.iconst 0, 1) := by decide +kernel
theorem dL_law_1281 : decode cL_law 1281 = .ok (.laload, 1) := by decide +kernel
theorem dL_law_1282 : decode cL_law 1282 = .ok (.iload 6, 2) := by decide +kernel
theorem dL_law_1284 : decode cL_law 1284 = .ok (.i2l, 1) := by decide +kernel
theorem dL_law_1285 : decode cL_law 1285 = .ok (.lcmp, 1) := by decide +kernel
theorem dL_law_1286 : decode cL_law 1286 = .ok (.ifCond .eq 5, 3) := by decide +kernel
theorem dL_law_1289 : decode cL_law 1289 = .ok (.iconst 0, 1) := by decide +kernel
theorem dL_law_1290 : decode cL_law 1290 = .ok (.ireturn, 1) := by decide +kernel
theorem dL_law_1291 : decode cL_law 1291 = .ok (.goto 450, 3) := by decide +kernel
theorem dL_law_1294 : decode cL_law 1294 = .ok (.aload_n 1, 1) := by decide +kernel
theorem dL_law_1295 : decode cL_law 1295 = .ok (.aload_n 0, 1) := by decide +kernel
theorem dL_law_1296 : decode cL_law 1296 = .ok (.iload 4, 2) := by decide +kernel
theorem dL_law_1298 : decode cL_law 1298 = .ok (.iconst 1, 1) := by decide +kernel
theorem dL_law_1299 : decode cL_law 1299 = .ok (.iadd, 1) := by decide +kernel
theorem dL_law_1300 : decode cL_law 1300 = .ok (.iaload, 1) := by decide +kernel
theorem dL_law_1301 : decode cL_law 1301 = .ok (.aload_n 0, 1) := by decide +kernel
theorem dL_law_1302 : decode cL_law 1302 = .ok (.iload 4, 2) := by decide +kernel
theorem dL_law_1304 : decode cL_law 1304 = .ok (.iconst 2, 1) := by decide +kernel
theorem dL_law_1305 : decode cL_law 1305 = .ok (.iadd, 1) := by decide +kernel
theorem dL_law_1306 : decode cL_law 1306 = .ok (.iaload, 1) := by decide +kernel
theorem dL_law_1307 : decode cL_law 1307 = .ok (.aload_n 3, 1) := by decide +kernel
theorem dL_law_1308 : decode cL_law 1308 = .ok (.invokestatic 158, 3) := by decide +kernel
theorem dL_law_1311 : decode cL_law 1311 = .ok (.istore 5, 2) := by decide +kernel
theorem dL_law_1313 : decode cL_law 1313 = .ok (.aload_n 2, 1) := by decide +kernel
theorem dL_law_1314 : decode cL_law 1314 = .ok (.aload_n 0, 1) := by decide +kernel
theorem dL_law_1315 : decode cL_law 1315 = .ok (.iload 4, 2) := by decide +kernel
theorem dL_law_1317 : decode cL_law 1317 = .ok (.iconst 1, 1) := by decide +kernel
theorem dL_law_1318 : decode cL_law 1318 = .ok (.iadd, 1) := by decide +kernel
theorem dL_law_1319 : decode cL_law 1319 = .ok (.iaload, 1) := by decide +kernel
theorem dL_law_1320 : decode cL_law 1320 = .ok (.aload_n 0, 1) := by decide +kernel
theorem dL_law_1321 : decode cL_law 1321 = .ok (.iload 4, 2) := by decide +kernel
theorem dL_law_1323 : decode cL_law 1323 = .ok (.iconst 2, 1) := by decide +kernel
theorem dL_law_1324 : decode cL_law 1324 = .ok (.iadd, 1) := by decide +kernel
theorem dL_law_1325 : decode cL_law 1325 = .ok (.iaload, 1) := by decide +kernel
theorem dL_law_1326 : decode cL_law 1326 = .ok (.invokevirtual 160, 3) := by decide +kernel
theorem dL_law_1329 : decode cL_law 1329 = .ok (.istore 6, 2) := by decide +kernel
theorem dL_law_1331 : decode cL_law 1331 = .ok (.aload_n 2, 1) := by decide +kernel
theorem dL_law_1332 : decode cL_law 1332 = .ok (.invokevirtual 108, 3) := by decide +kernel
theorem dL_law_1335 : decode cL_law 1335 = .ok (.iload 5, 2) := by decide +kernel
theorem dL_law_1337 : decode cL_law 1337 = .ok (.if_icmp .eq 5, 3) := by decide +kernel
theorem dL_law_1340 : decode cL_law 1340 = .ok (.iconst 0, 1) := by decide +kernel
theorem dL_law_1341 : decode cL_law 1341 = .ok (.ireturn, 1) := by decide +kernel
theorem dL_law_1342 : decode cL_law 1342 = .ok (.iload 5, 2) := by decide +kernel
theorem dL_law_1344 : decode cL_law 1344 = .ok (.ifCond .ne 15, 3) := by decide +kernel
theorem dL_law_1347 : decode cL_law 1347 = .ok (.aload_n 3, 1) := by decide +kernel
theorem dL_law_1348 : decode cL_law 1348 = .ok (.iconst 0, 1) := by decide +kernel
theorem dL_law_1349 : decode cL_law 1349 = .ok (.laload, 1) := by decide +kernel
theorem dL_law_1350 : decode cL_law 1350 = .ok (.iload 6, 2) := by decide +kernel
theorem dL_law_1352 : decode cL_law 1352 = .ok (.i2l, 1) := by decide +kernel
theorem dL_law_1353 : decode cL_law 1353 = .ok (.lcmp, 1) := by decide +kernel
theorem dL_law_1354 : decode cL_law 1354 = .ok (.ifCond .eq 5, 3) := by decide +kernel
theorem dL_law_1357 : decode cL_law 1357 = .ok (.iconst 0, 1) := by decide +kernel
theorem dL_law_1358 : decode cL_law 1358 = .ok (.ireturn, 1) := by decide +kernel
theorem dL_law_1359 : decode cL_law 1359 = .ok (.goto 382, 3) := by decide +kernel
theorem dL_law_1362 : decode cL_law 1362 = .ok (.aload_n 1, 1) := by decide +kernel
theorem dL_law_1363 : decode cL_law 1363 = .ok (.aload_n 0, 1) := by decide +kernel
theorem dL_law_1364 : decode cL_law 1364 = .ok (.iload 4, 2) := by decide +kernel
theorem dL_law_1366 : decode cL_law 1366 = .ok (.iconst 1, 1) := by decide +kernel
theorem dL_law_1367 : decode cL_law 1367 = .ok (.iadd, 1) := by decide +kernel
theorem dL_law_1368 : decode cL_law 1368 = .ok (.iaload, 1) := by decide +kernel
theorem dL_law_1369 : decode cL_law 1369 = .ok (.aload_n 0, 1) := by decide +kernel
theorem dL_law_1370 : decode cL_law 1370 = .ok (.iload 4, 2) := by decide +kernel
theorem dL_law_1372 : decode cL_law 1372 = .ok (.iconst 2, 1) := by decide +kernel
theorem dL_law_1373 : decode cL_law 1373 = .ok (.iadd, 1) := by decide +kernel
theorem dL_law_1374 : decode cL_law 1374 = .ok (.iaload, 1) := by decide +kernel
theorem dL_law_1375 : decode cL_law 1375 = .ok (.aload_n 3, 1) := by decide +kernel
theorem dL_law_1376 : decode cL_law 1376 = .ok (.invokestatic 161, 3) := by decide +kernel
theorem dL_law_1379 : decode cL_law 1379 = .ok (.istore 5, 2) := by decide +kernel
theorem dL_law_1381 : decode cL_law 1381 = .ok (.aload_n 2, 1) := by decide +kernel
theorem dL_law_1382 : decode cL_law 1382 = .ok (.aload_n 0, 1) := by decide +kernel
theorem dL_law_1383 : decode cL_law 1383 = .ok (.iload 4, 2) := by decide +kernel
theorem dL_law_1385 : decode cL_law 1385 = .ok (.iconst 1, 1) := by decide +kernel
theorem dL_law_1386 : decode cL_law 1386 = .ok (.iadd, 1) := by decide +kernel
theorem dL_law_1387 : decode cL_law 1387 = .ok (.iaload, 1) := by decide +kernel
theorem dL_law_1388 : decode cL_law 1388 = .ok (.aload_n 0, 1) := by decide +kernel
theorem dL_law_1389 : decode cL_law 1389 = .ok (.iload 4, 2) := by decide +kernel
theorem dL_law_1391 : decode cL_law 1391 = .ok (.iconst 2, 1) := by decide +kernel
theorem dL_law_1392 : decode cL_law 1392 = .ok (.iadd, 1) := by decide +kernel
theorem dL_law_1393 : decode cL_law 1393 = .ok (.iaload, 1) := by decide +kernel
theorem dL_law_1394 : decode cL_law 1394 = .ok (.invokevirtual 163, 3) := by decide +kernel
theorem dL_law_1397 : decode cL_law 1397 = .ok (.istore 6, 2) := by decide +kernel
theorem dL_law_1399 : decode cL_law 1399 = .ok (.aload_n 2, 1) := by decide +kernel
theorem dL_law_1400 : decode cL_law 1400 = .ok (.invokevirtual 108, 3) := by decide +kernel
theorem dL_law_1403 : decode cL_law 1403 = .ok (.iload 5, 2) := by decide +kernel
theorem dL_law_1405 : decode cL_law 1405 = .ok (.if_icmp .eq 5, 3) := by decide +kernel
theorem dL_law_1408 : decode cL_law 1408 = .ok (.iconst 0, 1) := by decide +kernel
theorem dL_law_1409 : decode cL_law 1409 = .ok (.ireturn, 1) := by decide +kernel
theorem dL_law_1410 : decode cL_law 1410 = .ok (.iload 5, 2) := by decide +kernel
theorem dL_law_1412 : decode cL_law 1412 = .ok (.ifCond .ne 15, 3) := by decide +kernel
theorem dL_law_1415 : decode cL_law 1415 = .ok (.aload_n 3, 1) := by decide +kernel
theorem dL_law_1416 : decode cL_law 1416 = .ok (.iconst 0, 1) := by decide +kernel
theorem dL_law_1417 : decode cL_law 1417 = .ok (.laload, 1) := by decide +kernel
theorem dL_law_1418 : decode cL_law 1418 = .ok (.iload 6, 2) := by decide +kernel
theorem dL_law_1420 : decode cL_law 1420 = .ok (.i2l, 1) := by decide +kernel
theorem dL_law_1421 : decode cL_law 1421 = .ok (.lcmp, 1) := by decide +kernel
theorem dL_law_1422 : decode cL_law 1422 = .ok (.ifCond .eq 5, 3) := by decide +kernel
theorem dL_law_1425 : decode cL_law 1425 = .ok (.iconst 0, 1) := by decide +kernel
theorem dL_law_1426 : decode cL_law 1426 = .ok (.ireturn, 1) := by decide +kernel
theorem dL_law_1427 : decode cL_law 1427 = .ok (.goto 314, 3) := by decide +kernel
theorem dL_law_1430 : decode cL_law 1430 = .ok (.aload_n 1, 1) := by decide +kernel
theorem dL_law_1431 : decode cL_law 1431 = .ok (.aload_n 3, 1) := by decide +kernel
theorem dL_law_1432 : decode cL_law 1432 = .ok (.invokestatic 164, 3) := by decide +kernel
theorem dL_law_1435 : decode cL_law 1435 = .ok (.istore 5, 2) := by decide +kernel
theorem dL_law_1437 : decode cL_law 1437 = .ok (.aload_n 2, 1) := by decide +kernel
theorem dL_law_1438 : decode cL_law 1438 = .ok (.invokevirtual 166, 3) := by decide +kernel
theorem dL_law_1441 : decode cL_law 1441 = .ok (.istore 6, 2) := by decide +kernel
theorem dL_law_1443 : decode cL_law 1443 = .ok (.aload_n 2, 1) := by decide +kernel
theorem dL_law_1444 : decode cL_law 1444 = .ok (.invokevirtual 108, 3) := by decide +kernel
theorem dL_law_1447 : decode cL_law 1447 = .ok (.iload 5, 2) := by decide +kernel
theorem dL_law_1449 : decode cL_law 1449 = .ok (.if_icmp .eq 5, 3) := by decide +kernel
theorem dL_law_1452 : decode cL_law 1452 = .ok (.iconst 0, 1) := by decide +kernel
theorem dL_law_1453 : decode cL_law 1453 = .ok (.ireturn, 1) := by decide +kernel
theorem dL_law_1454 : decode cL_law 1454 = .ok (.iload 5, 2) := by decide +kernel
theorem dL_law_1456 : decode cL_law 1456 = .ok (.ifCond .ne 15, 3) := by decide +kernel
theorem dL_law_1459 : decode cL_law 1459 = .ok (.aload_n 3, 1) := by decide +kernel
theorem dL_law_1460 : decode cL_law 1460 = .ok (.iconst 0, 1) := by decide +kernel
theorem dL_law_1461 : decode cL_law 1461 = .ok (.laload, 1) := by decide +kernel
theorem dL_law_1462 : decode cL_law 1462 = .ok (.iload 6, 2) := by decide +kernel
theorem dL_law_1464 : decode cL_law 1464 = .ok (.i2l, 1) := by decide +kernel
theorem dL_law_1465 : decode cL_law 1465 = .ok (.lcmp, 1) := by decide +kernel
theorem dL_law_1466 : decode cL_law 1466 = .ok (.ifCond .eq 5, 3) := by decide +kernel
theorem dL_law_1469 : decode cL_law 1469 = .ok (.iconst 0, 1) := by decide +kernel
theorem dL_law_1470 : decode cL_law 1470 = .ok (.ireturn, 1) := by decide +kernel
theorem dL_law_1471 : decode cL_law 1471 = .ok (.goto 270, 3) := by decide +kernel
theorem dL_law_1474 : decode cL_law 1474 = .ok (.aload_n 1, 1) := by decide +kernel
theorem dL_law_1475 : decode cL_law 1475 = .ok (.invokevirtual 167, 3) := by decide +kernel
theorem dL_law_1478 : decode cL_law 1478 = .ok (.aload_n 2, 1) := by decide +kernel
theorem dL_law_1479 : decode cL_law 1479 = .ok (.invokevirtual 170, 3) := by decide +kernel
theorem dL_law_1482 : decode cL_law 1482 = .ok (.if_icmp .eq 259, 3) := by decide +kernel
theorem dL_law_1485 : decode cL_law 1485 = .ok (.iconst 0, 1) := by decide +kernel
theorem dL_law_1486 : decode cL_law 1486 = .ok (.ireturn, 1) := by decide +kernel
theorem dL_law_1487 : decode cL_law 1487 = .ok (.aload_n 1, 1) := by decide +kernel
theorem dL_law_1488 : decode cL_law 1488 = .ok (.aload_n 0, 1) := by decide +kernel
theorem dL_law_1489 : decode cL_law 1489 = .ok (.iload 4, 2) := by decide +kernel
theorem dL_law_1491 : decode cL_law 1491 = .ok (.iconst 1, 1) := by decide +kernel
theorem dL_law_1492 : decode cL_law 1492 = .ok (.iadd, 1) := by decide +kernel
theorem dL_law_1493 : decode cL_law 1493 = .ok (.iaload, 1) := by decide +kernel
theorem dL_law_1494 : decode cL_law 1494 = .ok (.aload_n 3, 1) := by decide +kernel
theorem dL_law_1495 : decode cL_law 1495 = .ok (.invokestatic 171, 3) := by decide +kernel
theorem dL_law_1498 : decode cL_law 1498 = .ok (.istore 5, 2) := by decide +kernel
theorem dL_law_1500 : decode cL_law 1500 = .ok (.aload_n 2, 1) := by decide +kernel
theorem dL_law_1501 : decode cL_law 1501 = .ok (.aload_n 0, 1) := by decide +kernel
theorem dL_law_1502 : decode cL_law 1502 = .ok (.iload 4, 2) := by decide +kernel
theorem dL_law_1504 : decode cL_law 1504 = .ok (.iconst 1, 1) := by decide +kernel
theorem dL_law_1505 : decode cL_law 1505 = .ok (.iadd, 1) := by decide +kernel
theorem dL_law_1506 : decode cL_law 1506 = .ok (.iaload, 1) := by decide +kernel
theorem dL_law_1507 : decode cL_law 1507 = .ok (.invokevirtual 173, 3) := by decide +kernel
theorem dL_law_1510 : decode cL_law 1510 = .ok (.istore 6, 2) := by decide +kernel
theorem dL_law_1512 : decode cL_law 1512 = .ok (.aload_n 2, 1) := by decide +kernel
theorem dL_law_1513 : decode cL_law 1513 = .ok (.invokevirtual 108, 3) := by decide +kernel
theorem dL_law_1516 : decode cL_law 1516 = .ok (.iload 5, 2) := by decide +kernel
theorem dL_law_1518 : decode cL_law 1518 = .ok (.if_icmp .eq 5, 3) := by decide +kernel
theorem dL_law_1521 : decode cL_law 1521 = .ok (.iconst 0, 1) := by decide +kernel
theorem dL_law_1522 : decode cL_law 1522 = .ok (.ireturn, 1) := by decide +kernel
theorem dL_law_1523 : decode cL_law 1523 = .ok (.iload 5, 2) := by decide +kernel
theorem dL_law_1525 : decode cL_law 1525 = .ok (.ifCond .ne 15, 3) := by decide +kernel
theorem dL_law_1528 : decode cL_law 1528 = .ok (.aload_n 3, 1) := by decide +kernel
theorem dL_law_1529 : decode cL_law 1529 = .ok (.iconst 0, 1) := by decide +kernel
theorem dL_law_1530 : decode cL_law 1530 = .ok (.laload, 1) := by decide +kernel
theorem dL_law_1531 : decode cL_law 1531 = .ok (.iload 6, 2) := by decide +kernel
theorem dL_law_1533 : decode cL_law 1533 = .ok (.i2l, 1) := by decide +kernel
theorem dL_law_1534 : decode cL_law 1534 = .ok (.lcmp, 1) := by decide +kernel
theorem dL_law_1535 : decode cL_law 1535 = .ok (.ifCond .eq 5, 3) := by decide +kernel
theorem dL_law_1538 : decode cL_law 1538 = .ok (.iconst 0, 1) := by decide +kernel
theorem dL_law_1539 : decode cL_law 1539 = .ok (.ireturn, 1) := by decide +kernel
theorem dL_law_1540 : decode cL_law 1540 = .ok (.goto 201, 3) := by decide +kernel
theorem dL_law_1543 : decode cL_law 1543 = .ok (.aload_n 1, 1) := by decide +kernel
theorem dL_law_1544 : decode cL_law 1544 = .ok (.aload_n 0, 1) := by decide +kernel
theorem dL_law_1545 : decode cL_law 1545 = .ok (.iload 4, 2) := by decide +kernel
theorem dL_law_1547 : decode cL_law 1547 = .ok (.iconst 1, 1) := by decide +kernel
theorem dL_law_1548 : decode cL_law 1548 = .ok (.iadd, 1) := by decide +kernel
theorem dL_law_1549 : decode cL_law 1549 = .ok (.iaload, 1) := by decide +kernel
theorem dL_law_1550 : decode cL_law 1550 = .ok (.aload_n 0, 1) := by decide +kernel
theorem dL_law_1551 : decode cL_law 1551 = .ok (.iload 4, 2) := by decide +kernel
theorem dL_law_1553 : decode cL_law 1553 = .ok (.iconst 2, 1) := by decide +kernel
theorem dL_law_1554 : decode cL_law 1554 = .ok (.iadd, 1) := by decide +kernel
theorem dL_law_1555 : decode cL_law 1555 = .ok (.iaload, 1) := by decide +kernel
theorem dL_law_1556 : decode cL_law 1556 = .ok (.aload_n 0, 1) := by decide +kernel
theorem dL_law_1557 : decode cL_law 1557 = .ok (.iload 4, 2) := by decide +kernel
theorem dL_law_1559 : decode cL_law 1559 = .ok (.iconst 3, 1) := by decide +kernel
theorem dL_law_1560 : decode cL_law 1560 = .ok (.iadd, 1) := by decide +kernel
theorem dL_law_1561 : decode cL_law 1561 = .ok (.iaload, 1) := by decide +kernel
theorem dL_law_1562 : decode cL_law 1562 = .ok (.aload_n 3, 1) := by decide +kernel
theorem dL_law_1563 : decode cL_law 1563 = .ok (.invokestatic 174, 3) := by decide +kernel
theorem dL_law_1566 : decode cL_law 1566 = .ok (.istore 5, 2) := by decide +kernel
theorem dL_law_1568 : decode cL_law 1568 = .ok (.aload_n 2, 1) := by decide +kernel
theorem dL_law_1569 : decode cL_law 1569 = .ok (.aload_n 0, 1) := by decide +kernel
theorem dL_law_1570 : decode cL_law 1570 = .ok (.iload 4, 2) := by decide +kernel
theorem dL_law_1572 : decode cL_law 1572 = .ok (.iconst 1, 1) := by decide +kernel
theorem dL_law_1573 : decode cL_law 1573 = .ok (.iadd, 1) := by decide +kernel
theorem dL_law_1574 : decode cL_law 1574 = .ok (.iaload, 1) := by decide +kernel
theorem dL_law_1575 : decode cL_law 1575 = .ok (.aload_n 0, 1) := by decide +kernel
theorem dL_law_1576 : decode cL_law 1576 = .ok (.iload 4, 2) := by decide +kernel
theorem dL_law_1578 : decode cL_law 1578 = .ok (.iconst 2, 1) := by decide +kernel
theorem dL_law_1579 : decode cL_law 1579 = .ok (.iadd, 1) := by decide +kernel
theorem dL_law_1580 : decode cL_law 1580 = .ok (.iaload, 1) := by decide +kernel
theorem dL_law_1581 : decode cL_law 1581 = .ok (.aload_n 0, 1) := by decide +kernel
theorem dL_law_1582 : decode cL_law 1582 = .ok (.iload 4, 2) := by decide +kernel
theorem dL_law_1584 : decode cL_law 1584 = .ok (.iconst 3, 1) := by decide +kernel
theorem dL_law_1585 : decode cL_law 1585 = .ok (.iadd, 1) := by decide +kernel
theorem dL_law_1586 : decode cL_law 1586 = .ok (.iaload, 1) := by decide +kernel
theorem dL_law_1587 : decode cL_law 1587 = .ok (.invokevirtual 176, 3) := by decide +kernel
theorem dL_law_1590 : decode cL_law 1590 = .ok (.istore 6, 2) := by decide +kernel
theorem dL_law_1592 : decode cL_law 1592 = .ok (.aload_n 2, 1) := by decide +kernel
theorem dL_law_1593 : decode cL_law 1593 = .ok (.invokevirtual 108, 3) := by decide +kernel
theorem dL_law_1596 : decode cL_law 1596 = .ok (.iload 5, 2) := by decide +kernel
theorem dL_law_1598 : decode cL_law 1598 = .ok (.if_icmp .eq 5, 3) := by decide +kernel
theorem dL_law_1601 : decode cL_law 1601 = .ok (.iconst 0, 1) := by decide +kernel
theorem dL_law_1602 : decode cL_law 1602 = .ok (.ireturn, 1) := by decide +kernel
theorem dL_law_1603 : decode cL_law 1603 = .ok (.iload 5, 2) := by decide +kernel
theorem dL_law_1605 : decode cL_law 1605 = .ok (.ifCond .ne 15, 3) := by decide +kernel
theorem dL_law_1608 : decode cL_law 1608 = .ok (.aload_n 3, 1) := by decide +kernel
theorem dL_law_1609 : decode cL_law 1609 = .ok (.iconst 0, 1) := by decide +kernel
theorem dL_law_1610 : decode cL_law 1610 = .ok (.laload, 1) := by decide +kernel
theorem dL_law_1611 : decode cL_law 1611 = .ok (.iload 6, 2) := by decide +kernel
theorem dL_law_1613 : decode cL_law 1613 = .ok (.i2l, 1) := by decide +kernel
theorem dL_law_1614 : decode cL_law 1614 = .ok (.lcmp, 1) := by decide +kernel
theorem dL_law_1615 : decode cL_law 1615 = .ok (.ifCond .eq 5, 3) := by decide +kernel
theorem dL_law_1618 : decode cL_law 1618 = .ok (.iconst 0, 1) := by decide +kernel
theorem dL_law_1619 : decode cL_law 1619 = .ok (.ireturn, 1) := by decide +kernel
theorem dL_law_1620 : decode cL_law 1620 = .ok (.goto 121, 3) := by decide +kernel
theorem dL_law_1623 : decode cL_law 1623 = .ok (.aload_n 1, 1) := by decide +kernel
theorem dL_law_1624 : decode cL_law 1624 = .ok (.aload_n 0, 1) := by decide +kernel
theorem dL_law_1625 : decode cL_law 1625 = .ok (.iload 4, 2) := by decide +kernel
theorem dL_law_1627 : decode cL_law 1627 = .ok (.iconst 1, 1) := by decide +kernel
theorem dL_law_1628 : decode cL_law 1628 = .ok (.iadd, 1) := by decide +kernel
theorem dL_law_1629 : decode cL_law 1629 = .ok (.iaload, 1) := by decide +kernel
theorem dL_law_1630 : decode cL_law 1630 = .ok (.aload_n 0, 1) := by decide +kernel
theorem dL_law_1631 : decode cL_law 1631 = .ok (.iload 4, 2) := by decide +kernel
theorem dL_law_1633 : decode cL_law 1633 = .ok (.iconst 2, 1) := by decide +kernel
theorem dL_law_1634 : decode cL_law 1634 = .ok (.iadd, 1) := by decide +kernel
theorem dL_law_1635 : decode cL_law 1635 = .ok (.iaload, 1) := by decide +kernel
theorem dL_law_1636 : decode cL_law 1636 = .ok (.aload_n 0, 1) := by decide +kernel
theorem dL_law_1637 : decode cL_law 1637 = .ok (.iload 4, 2) := by decide +kernel
theorem dL_law_1639 : decode cL_law 1639 = .ok (.iconst 3, 1) := by decide +kernel
theorem dL_law_1640 : decode cL_law 1640 = .ok (.iadd, 1) := by decide +kernel
theorem dL_law_1641 : decode cL_law 1641 = .ok (.iaload, 1) := by decide +kernel
theorem dL_law_1642 : decode cL_law 1642 = .ok (.aload_n 3, 1) := by decide +kernel
theorem dL_law_1643 : decode cL_law 1643 = .ok (.invokestatic 177, 3) := by decide +kernel
theorem dL_law_1646 : decode cL_law 1646 = .ok (.istore 5, 2) := by decide +kernel
theorem dL_law_1648 : decode cL_law 1648 = .ok (.aload_n 2, 1) := by decide +kernel
theorem dL_law_1649 : decode cL_law 1649 = .ok (.aload_n 0, 1) := by decide +kernel
theorem dL_law_1650 : decode cL_law 1650 = .ok (.iload 4, 2) := by decide +kernel
theorem dL_law_1652 : decode cL_law 1652 = .ok (.iconst 1, 1) := by decide +kernel
theorem dL_law_1653 : decode cL_law 1653 = .ok (.iadd, 1) := by decide +kernel
theorem dL_law_1654 : decode cL_law 1654 = .ok (.iaload, 1) := by decide +kernel
theorem dL_law_1655 : decode cL_law 1655 = .ok (.aload_n 0, 1) := by decide +kernel
theorem dL_law_1656 : decode cL_law 1656 = .ok (.iload 4, 2) := by decide +kernel
theorem dL_law_1658 : decode cL_law 1658 = .ok (.iconst 2, 1) := by decide +kernel
theorem dL_law_1659 : decode cL_law 1659 = .ok (.iadd, 1) := by decide +kernel
theorem dL_law_1660 : decode cL_law 1660 = .ok (.iaload, 1) := by decide +kernel
theorem dL_law_1661 : decode cL_law 1661 = .ok (.aload_n 0, 1) := by decide +kernel
theorem dL_law_1662 : decode cL_law 1662 = .ok (.iload 4, 2) := by decide +kernel
theorem dL_law_1664 : decode cL_law 1664 = .ok (.iconst 3, 1) := by decide +kernel
theorem dL_law_1665 : decode cL_law 1665 = .ok (.iadd, 1) := by decide +kernel
theorem dL_law_1666 : decode cL_law 1666 = .ok (.iaload, 1) := by decide +kernel
theorem dL_law_1667 : decode cL_law 1667 = .ok (.invokevirtual 179, 3) := by decide +kernel
theorem dL_law_1670 : decode cL_law 1670 = .ok (.istore 6, 2) := by decide +kernel
theorem dL_law_1672 : decode cL_law 1672 = .ok (.aload_n 2, 1) := by decide +kernel
theorem dL_law_1673 : decode cL_law 1673 = .ok (.invokevirtual 108, 3) := by decide +kernel
theorem dL_law_1676 : decode cL_law 1676 = .ok (.iload 5, 2) := by decide +kernel
theorem dL_law_1678 : decode cL_law 1678 = .ok (.if_icmp .eq 5, 3) := by decide +kernel
theorem dL_law_1681 : decode cL_law 1681 = .ok (.iconst 0, 1) := by decide +kernel
theorem dL_law_1682 : decode cL_law 1682 = .ok (.ireturn, 1) := by decide +kernel
theorem dL_law_1683 : decode cL_law 1683 = .ok (.iload 5, 2) := by decide +kernel
theorem dL_law_1685 : decode cL_law 1685 = .ok (.ifCond .ne 15, 3) := by decide +kernel
theorem dL_law_1688 : decode cL_law 1688 = .ok (.aload_n 3, 1) := by decide +kernel
theorem dL_law_1689 : decode cL_law 1689 = .ok (.iconst 0, 1) := by decide +kernel
theorem dL_law_1690 : decode cL_law 1690 = .ok (.laload, 1) := by decide +kernel
theorem dL_law_1691 : decode cL_law 1691 = .ok (.iload 6, 2) := by decide +kernel
theorem dL_law_1693 : decode cL_law 1693 = .ok (.i2l, 1) := by decide +kernel
theorem dL_law_1694 : decode cL_law 1694 = .ok (.lcmp, 1) := by decide +kernel
theorem dL_law_1695 : decode cL_law 1695 = .ok (.ifCond .eq 5, 3) := by decide +kernel
theorem dL_law_1698 : decode cL_law 1698 = .ok (.iconst 0, 1) := by decide +kernel
theorem dL_law_1699 : decode cL_law 1699 = .ok (.ireturn, 1) := by decide +kernel
theorem dL_law_1700 : decode cL_law 1700 = .ok (.goto 41, 3) := by decide +kernel
theorem dL_law_1703 : decode cL_law 1703 = .ok (.aload_n 1, 1) := by decide +kernel
theorem dL_law_1704 : decode cL_law 1704 = .ok (.invokevirtual 180, 3) := by decide +kernel
theorem dL_law_1707 : decode cL_law 1707 = .ok (.aload_n 2, 1) := by decide +kernel
theorem dL_law_1708 : decode cL_law 1708 = .ok (.invokevirtual 183, 3) := by decide +kernel
theorem dL_law_1711 : decode cL_law 1711 = .ok (.if_icmp .eq 30, 3) := by decide +kernel
theorem dL_law_1714 : decode cL_law 1714 = .ok (.iconst 0, 1) := by decide +kernel
theorem dL_law_1715 : decode cL_law 1715 = .ok (.ireturn, 1) := by decide +kernel
theorem dL_law_1716 : decode cL_law 1716 = .ok (.aload_n 1, 1) := by decide +kernel
theorem dL_law_1717 : decode cL_law 1717 = .ok (.aload_n 0, 1) := by decide +kernel
theorem dL_law_1718 : decode cL_law 1718 = .ok (.iload 4, 2) := by decide +kernel
theorem dL_law_1720 : decode cL_law 1720 = .ok (.iconst 1, 1) := by decide +kernel
theorem dL_law_1721 : decode cL_law 1721 = .ok (.iadd, 1) := by decide +kernel
theorem dL_law_1722 : decode cL_law 1722 = .ok (.iaload, 1) := by decide +kernel
theorem dL_law_1723 : decode cL_law 1723 = .ok (.invokevirtual 184, 3) := by decide +kernel
theorem dL_law_1726 : decode cL_law 1726 = .ok (.aload_n 2, 1) := by decide +kernel
theorem dL_law_1727 : decode cL_law 1727 = .ok (.aload_n 0, 1) := by decide +kernel
theorem dL_law_1728 : decode cL_law 1728 = .ok (.iload 4, 2) := by decide +kernel
theorem dL_law_1730 : decode cL_law 1730 = .ok (.iconst 1, 1) := by decide +kernel
theorem dL_law_1731 : decode cL_law 1731 = .ok (.iadd, 1) := by decide +kernel
theorem dL_law_1732 : decode cL_law 1732 = .ok (.iaload, 1) := by decide +kernel
theorem dL_law_1733 : decode cL_law 1733 = .ok (.invokevirtual 187, 3) := by decide +kernel
theorem dL_law_1736 : decode cL_law 1736 = .ok (.if_icmp .eq 5, 3) := by decide +kernel
theorem dL_law_1739 : decode cL_law 1739 = .ok (.iconst 0, 1) := by decide +kernel
theorem dL_law_1740 : decode cL_law 1740 = .ok (.ireturn, 1) := by decide +kernel
theorem dL_law_1741 : decode cL_law 1741 = .ok (.iinc 4 11, 3) := by decide +kernel
theorem dL_law_1744 : decode cL_law 1744 = .ok (.goto (-1721), 3) := by decide +kernel
theorem dL_law_1747 : decode cL_law 1747 = .ok (.iconst 1, 1) := by decide +kernel
theorem dL_law_1748 : decode cL_law 1748 = .ok (.ireturn, 1) := by decide +kernel
