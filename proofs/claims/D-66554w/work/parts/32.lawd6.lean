theorem d_law_law_1447 : decode code 1447 = .ok (.ifCond .ne 15, 3) := by decide +kernel
theorem d_law_law_1450 : decode code 1450 = .ok (.aload_n 3, 1) := by decide +kernel
theorem d_law_law_1451 : decode code 1451 = .ok (.iconst 0, 1) := by decide +kernel
theorem d_law_law_1452 : decode code 1452 = .ok (.laload, 1) := by decide +kernel
theorem d_law_law_1453 : decode code 1453 = .ok (.iload 6, 2) := by decide +kernel
theorem d_law_law_1455 : decode code 1455 = .ok (.i2l, 1) := by decide +kernel
theorem d_law_law_1456 : decode code 1456 = .ok (.lcmp, 1) := by decide +kernel
theorem d_law_law_1457 : decode code 1457 = .ok (.ifCond .eq 5, 3) := by decide +kernel
theorem d_law_law_1460 : decode code 1460 = .ok (.iconst 0, 1) := by decide +kernel
theorem d_law_law_1461 : decode code 1461 = .ok (.ireturn, 1) := by decide +kernel
theorem d_law_law_1462 : decode code 1462 = .ok (.goto 159, 3) := by decide +kernel
theorem d_law_law_1465 : decode code 1465 = .ok (.aload_n 1, 1) := by decide +kernel
theorem d_law_law_1466 : decode code 1466 = .ok (.aload_n 0, 1) := by decide +kernel
theorem d_law_law_1467 : decode code 1467 = .ok (.iload 4, 2) := by decide +kernel
theorem d_law_law_1469 : decode code 1469 = .ok (.iconst 1, 1) := by decide +kernel
theorem d_law_law_1470 : decode code 1470 = .ok (.iadd, 1) := by decide +kernel
theorem d_law_law_1471 : decode code 1471 = .ok (.iaload, 1) := by decide +kernel
theorem d_law_law_1472 : decode code 1472 = .ok (.i2l, 1) := by decide +kernel
theorem d_law_law_1473 : decode code 1473 = .ok (.bipush 32, 2) := by decide +kernel
theorem d_law_law_1475 : decode code 1475 = .ok (.lshl, 1) := by decide +kernel
theorem d_law_law_1476 : decode code 1476 = .ok (.aload_n 0, 1) := by decide +kernel
theorem d_law_law_1477 : decode code 1477 = .ok (.iload 4, 2) := by decide +kernel
theorem d_law_law_1479 : decode code 1479 = .ok (.iconst 2, 1) := by decide +kernel
theorem d_law_law_1480 : decode code 1480 = .ok (.iadd, 1) := by decide +kernel
theorem d_law_law_1481 : decode code 1481 = .ok (.iaload, 1) := by decide +kernel
theorem d_law_law_1482 : decode code 1482 = .ok (.i2l, 1) := by decide +kernel
theorem d_law_law_1483 : decode code 1483 = .ok (.ldc2_w 132, 3) := by decide +kernel
theorem d_law_law_1486 : decode code 1486 = .ok (.land, 1) := by decide +kernel
theorem d_law_law_1487 : decode code 1487 = .ok (.lor, 1) := by decide +kernel
theorem d_law_law_1488 : decode code 1488 = .ok (.aload_n 0, 1) := by decide +kernel
theorem d_law_law_1489 : decode code 1489 = .ok (.iload 4, 2) := by decide +kernel
theorem d_law_law_1491 : decode code 1491 = .ok (.iconst 3, 1) := by decide +kernel
theorem d_law_law_1492 : decode code 1492 = .ok (.iadd, 1) := by decide +kernel
theorem d_law_law_1493 : decode code 1493 = .ok (.iaload, 1) := by decide +kernel
theorem d_law_law_1494 : decode code 1494 = .ok (.aload_n 3, 1) := by decide +kernel
theorem d_law_law_1495 : decode code 1495 = .ok (.invokestatic 160, 3) := by decide +kernel
theorem d_law_law_1498 : decode code 1498 = .ok (.istore 5, 2) := by decide +kernel
theorem d_law_law_1500 : decode code 1500 = .ok (.aload_n 2, 1) := by decide +kernel
theorem d_law_law_1501 : decode code 1501 = .ok (.aload_n 0, 1) := by decide +kernel
theorem d_law_law_1502 : decode code 1502 = .ok (.iload 4, 2) := by decide +kernel
theorem d_law_law_1504 : decode code 1504 = .ok (.iconst 1, 1) := by decide +kernel
theorem d_law_law_1505 : decode code 1505 = .ok (.iadd, 1) := by decide +kernel
theorem d_law_law_1506 : decode code 1506 = .ok (.iaload, 1) := by decide +kernel
theorem d_law_law_1507 : decode code 1507 = .ok (.i2l, 1) := by decide +kernel
theorem d_law_law_1508 : decode code 1508 = .ok (.bipush 32, 2) := by decide +kernel
theorem d_law_law_1510 : decode code 1510 = .ok (.lshl, 1) := by decide +kernel
theorem d_law_law_1511 : decode code 1511 = .ok (.aload_n 0, 1) := by decide +kernel
theorem d_law_law_1512 : decode code 1512 = .ok (.iload 4, 2) := by decide +kernel
theorem d_law_law_1514 : decode code 1514 = .ok (.iconst 2, 1) := by decide +kernel
theorem d_law_law_1515 : decode code 1515 = .ok (.iadd, 1) := by decide +kernel
theorem d_law_law_1516 : decode code 1516 = .ok (.iaload, 1) := by decide +kernel
theorem d_law_law_1517 : decode code 1517 = .ok (.i2l, 1) := by decide +kernel
theorem d_law_law_1518 : decode code 1518 = .ok (.ldc2_w 132, 3) := by decide +kernel
theorem d_law_law_1521 : decode code 1521 = .ok (.land, 1) := by decide +kernel
theorem d_law_law_1522 : decode code 1522 = .ok (.lor, 1) := by decide +kernel
theorem d_law_law_1523 : decode code 1523 = .ok (.aload_n 0, 1) := by decide +kernel
theorem d_law_law_1524 : decode code 1524 = .ok (.iload 4, 2) := by decide +kernel
theorem d_law_law_1526 : decode code 1526 = .ok (.iconst 3, 1) := by decide +kernel
theorem d_law_law_1527 : decode code 1527 = .ok (.iadd, 1) := by decide +kernel
theorem d_law_law_1528 : decode code 1528 = .ok (.iaload, 1) := by decide +kernel
theorem d_law_law_1529 : decode code 1529 = .ok (.invokevirtual 163, 3) := by decide +kernel
theorem d_law_law_1532 : decode code 1532 = .ok (.istore 6, 2) := by decide +kernel
theorem d_law_law_1534 : decode code 1534 = .ok (.aload_n 2, 1) := by decide +kernel
theorem d_law_law_1535 : decode code 1535 = .ok (.invokevirtual 97, 3) := by decide +kernel
theorem d_law_law_1538 : decode code 1538 = .ok (.iload 5, 2) := by decide +kernel
theorem d_law_law_1540 : decode code 1540 = .ok (.if_icmp .eq 5, 3) := by decide +kernel
theorem d_law_law_1543 : decode code 1543 = .ok (.iconst 0, 1) := by decide +kernel
theorem d_law_law_1544 : decode code 1544 = .ok (.ireturn, 1) := by decide +kernel
theorem d_law_law_1545 : decode code 1545 = .ok (.iload 5, 2) := by decide +kernel
theorem d_law_law_1547 : decode code 1547 = .ok (.ifCond .ne 15, 3) := by decide +kernel
theorem d_law_law_1550 : decode code 1550 = .ok (.aload_n 3, 1) := by decide +kernel
theorem d_law_law_1551 : decode code 1551 = .ok (.iconst 0, 1) := by decide +kernel
theorem d_law_law_1552 : decode code 1552 = .ok (.laload, 1) := by decide +kernel
theorem d_law_law_1553 : decode code 1553 = .ok (.iload 6, 2) := by decide +kernel
theorem d_law_law_1555 : decode code 1555 = .ok (.i2l, 1) := by decide +kernel
theorem d_law_law_1556 : decode code 1556 = .ok (.lcmp, 1) := by decide +kernel
theorem d_law_law_1557 : decode code 1557 = .ok (.ifCond .eq 5, 3) := by decide +kernel
theorem d_law_law_1560 : decode code 1560 = .ok (.iconst 0, 1) := by decide +kernel
theorem d_law_law_1561 : decode code 1561 = .ok (.ireturn, 1) := by decide +kernel
theorem d_law_law_1562 : decode code 1562 = .ok (.goto 59, 3) := by decide +kernel
theorem d_law_law_1565 : decode code 1565 = .ok (.aload_n 1, 1) := by decide +kernel
theorem d_law_law_1566 : decode code 1566 = .ok (.aload_n 0, 1) := by decide +kernel
theorem d_law_law_1567 : decode code 1567 = .ok (.iload 4, 2) := by decide +kernel
theorem d_law_law_1569 : decode code 1569 = .ok (.iconst 1, 1) := by decide +kernel
theorem d_law_law_1570 : decode code 1570 = .ok (.iadd, 1) := by decide +kernel
theorem d_law_law_1571 : decode code 1571 = .ok (.iaload, 1) := by decide +kernel
theorem d_law_law_1572 : decode code 1572 = .ok (.aload_n 3, 1) := by decide +kernel
theorem d_law_law_1573 : decode code 1573 = .ok (.invokestatic 164, 3) := by decide +kernel
theorem d_law_law_1576 : decode code 1576 = .ok (.istore 5, 2) := by decide +kernel
theorem d_law_law_1578 : decode code 1578 = .ok (.aload_n 2, 1) := by decide +kernel
theorem d_law_law_1579 : decode code 1579 = .ok (.aload_n 0, 1) := by decide +kernel
theorem d_law_law_1580 : decode code 1580 = .ok (.iload 4, 2) := by decide +kernel
theorem d_law_law_1582 : decode code 1582 = .ok (.iconst 1, 1) := by decide +kernel
theorem d_law_law_1583 : decode code 1583 = .ok (.iadd, 1) := by decide +kernel
theorem d_law_law_1584 : decode code 1584 = .ok (.iaload, 1) := by decide +kernel
theorem d_law_law_1585 : decode code 1585 = .ok (.invokevirtual 166, 3) := by decide +kernel
theorem d_law_law_1588 : decode code 1588 = .ok (.istore 6, 2) := by decide +kernel
theorem d_law_law_1590 : decode code 1590 = .ok (.aload_n 2, 1) := by decide +kernel
theorem d_law_law_1591 : decode code 1591 = .ok (.invokevirtual 97, 3) := by decide +kernel
theorem d_law_law_1594 : decode code 1594 = .ok (.iload 5, 2) := by decide +kernel
theorem d_law_law_1596 : decode code 1596 = .ok (.if_icmp .eq 5, 3) := by decide +kernel
theorem d_law_law_1599 : decode code 1599 = .ok (.iconst 0, 1) := by decide +kernel
theorem d_law_law_1600 : decode code 1600 = .ok (.ireturn, 1) := by decide +kernel
theorem d_law_law_1601 : decode code 1601 = .ok (.iload 5, 2) := by decide +kernel
theorem d_law_law_1603 : decode code 1603 = .ok (.ifCond .ne 15, 3) := by decide +kernel
theorem d_law_law_1606 : decode code 1606 = .ok (.aload_n 3, 1) := by decide +kernel
theorem d_law_law_1607 : decode code 1607 = .ok (.iconst 0, 1) := by decide +kernel
theorem d_law_law_1608 : decode code 1608 = .ok (.laload, 1) := by decide +kernel
theorem d_law_law_1609 : decode code 1609 = .ok (.iload 6, 2) := by decide +kernel
theorem d_law_law_1611 : decode code 1611 = .ok (.i2l, 1) := by decide +kernel
theorem d_law_law_1612 : decode code 1612 = .ok (.lcmp, 1) := by decide +kernel
theorem d_law_law_1613 : decode code 1613 = .ok (.ifCond .eq 5, 3) := by decide +kernel
theorem d_law_law_1616 : decode code 1616 = .ok (.iconst 0, 1) := by decide +kernel
theorem d_law_law_1617 : decode code 1617 = .ok (.ireturn, 1) := by decide +kernel
theorem d_law_law_1618 : decode code 1618 = .ok (.goto 3, 3) := by decide +kernel
theorem d_law_law_1621 : decode code 1621 = .ok (.iinc 4 8, 3) := by decide +kernel
theorem d_law_law_1624 : decode code 1624 = .ok (.goto (-1581), 3) := by decide +kernel
theorem d_law_law_1627 : decode code 1627 = .ok (.iconst 1, 1) := by decide +kernel
theorem d_law_law_1628 : decode code 1628 = .ok (.ireturn, 1) := by decide +kernel
