set_option maxRecDepth 100000
theorem dL_law_1444 : decode cL_law 1444 = .ok (.iload 4, 2) := by decide +kernel
theorem dL_law_1446 : decode cL_law 1446 = .ok (.iconst 2, 1) := by decide +kernel
theorem dL_law_1447 : decode cL_law 1447 = .ok (.iadd, 1) := by decide +kernel
theorem dL_law_1448 : decode cL_law 1448 = .ok (.iaload, 1) := by decide +kernel
theorem dL_law_1449 : decode cL_law 1449 = .ok (.aload_n 0, 1) := by decide +kernel
theorem dL_law_1450 : decode cL_law 1450 = .ok (.iload 4, 2) := by decide +kernel
theorem dL_law_1452 : decode cL_law 1452 = .ok (.iconst 3, 1) := by decide +kernel
theorem dL_law_1453 : decode cL_law 1453 = .ok (.iadd, 1) := by decide +kernel
theorem dL_law_1454 : decode cL_law 1454 = .ok (.iaload, 1) := by decide +kernel
theorem dL_law_1455 : decode cL_law 1455 = .ok (.aload_n 0, 1) := by decide +kernel
theorem dL_law_1456 : decode cL_law 1456 = .ok (.iload 4, 2) := by decide +kernel
theorem dL_law_1458 : decode cL_law 1458 = .ok (.iconst 4, 1) := by decide +kernel
theorem dL_law_1459 : decode cL_law 1459 = .ok (.iadd, 1) := by decide +kernel
theorem dL_law_1460 : decode cL_law 1460 = .ok (.iaload, 1) := by decide +kernel
theorem dL_law_1461 : decode cL_law 1461 = .ok (.aload_n 3, 1) := by decide +kernel
theorem dL_law_1462 : decode cL_law 1462 = .ok (.invokestatic 211, 3) := by decide +kernel
theorem dL_law_1465 : decode cL_law 1465 = .ok (.istore 5, 2) := by decide +kernel
theorem dL_law_1467 : decode cL_law 1467 = .ok (.aload_n 2, 1) := by decide +kernel
theorem dL_law_1468 : decode cL_law 1468 = .ok (.aload_n 0, 1) := by decide +kernel
theorem dL_law_1469 : decode cL_law 1469 = .ok (.iload 4, 2) := by decide +kernel
theorem dL_law_1471 : decode cL_law 1471 = .ok (.iconst 1, 1) := by decide +kernel
theorem dL_law_1472 : decode cL_law 1472 = .ok (.iadd, 1) := by decide +kernel
theorem dL_law_1473 : decode cL_law 1473 = .ok (.iaload, 1) := by decide +kernel
theorem dL_law_1474 : decode cL_law 1474 = .ok (.aload_n 0, 1) := by decide +kernel
theorem dL_law_1475 : decode cL_law 1475 = .ok (.iload 4, 2) := by decide +kernel
theorem dL_law_1477 : decode cL_law 1477 = .ok (.iconst 2, 1) := by decide +kernel
theorem dL_law_1478 : decode cL_law 1478 = .ok (.iadd, 1) := by decide +kernel
theorem dL_law_1479 : decode cL_law 1479 = .ok (.iaload, 1) := by decide +kernel
theorem dL_law_1480 : decode cL_law 1480 = .ok (.aload_n 0, 1) := by decide +kernel
theorem dL_law_1481 : decode cL_law 1481 = .ok (.iload 4, 2) := by decide +kernel
theorem dL_law_1483 : decode cL_law 1483 = .ok (.iconst 3, 1) := by decide +kernel
theorem dL_law_1484 : decode cL_law 1484 = .ok (.iadd, 1) := by decide +kernel
theorem dL_law_1485 : decode cL_law 1485 = .ok (.iaload, 1) := by decide +kernel
theorem dL_law_1486 : decode cL_law 1486 = .ok (.aload_n 0, 1) := by decide +kernel
theorem dL_law_1487 : decode cL_law 1487 = .ok (.iload 4, 2) := by decide +kernel
theorem dL_law_1489 : decode cL_law 1489 = .ok (.iconst 4, 1) := by decide +kernel
theorem dL_law_1490 : decode cL_law 1490 = .ok (.iadd, 1) := by decide +kernel
theorem dL_law_1491 : decode cL_law 1491 = .ok (.iaload, 1) := by decide +kernel
theorem dL_law_1492 : decode cL_law 1492 = .ok (.invokevirtual 213, 3) := by decide +kernel
theorem dL_law_1495 : decode cL_law 1495 = .ok (.istore 6, 2) := by decide +kernel
theorem dL_law_1497 : decode cL_law 1497 = .ok (.aload_n 2, 1) := by decide +kernel
theorem dL_law_1498 : decode cL_law 1498 = .ok (.invokevirtual 151, 3) := by decide +kernel
theorem dL_law_1501 : decode cL_law 1501 = .ok (.iload 5, 2) := by decide +kernel
theorem dL_law_1503 : decode cL_law 1503 = .ok (.if_icmp .eq 5, 3) := by decide +kernel
theorem dL_law_1506 : decode cL_law 1506 = .ok (.iconst 0, 1) := by decide +kernel
theorem dL_law_1507 : decode cL_law 1507 = .ok (.ireturn, 1) := by decide +kernel
theorem dL_law_1508 : decode cL_law 1508 = .ok (.iload 5, 2) := by decide +kernel
theorem dL_law_1510 : decode cL_law 1510 = .ok (.ifCond .ne 15, 3) := by decide +kernel
theorem dL_law_1513 : decode cL_law 1513 = .ok (.aload_n 3, 1) := by decide +kernel
theorem dL_law_1514 : decode cL_law 1514 = .ok (.iconst 0, 1) := by decide +kernel
theorem dL_law_1515 : decode cL_law 1515 = .ok (.laload, 1) := by decide +kernel
theorem dL_law_1516 : decode cL_law 1516 = .ok (.iload 6, 2) := by decide +kernel
theorem dL_law_1518 : decode cL_law 1518 = .ok (.i2l, 1) := by decide +kernel
theorem dL_law_1519 : decode cL_law 1519 = .ok (.lcmp, 1) := by decide +kernel
theorem dL_law_1520 : decode cL_law 1520 = .ok (.ifCond .eq 5, 3) := by decide +kernel
theorem dL_law_1523 : decode cL_law 1523 = .ok (.iconst 0, 1) := by decide +kernel
theorem dL_law_1524 : decode cL_law 1524 = .ok (.ireturn, 1) := by decide +kernel
theorem dL_law_1525 : decode cL_law 1525 = .ok (.goto 1549, 3) := by decide +kernel
theorem dL_law_1528 : decode cL_law 1528 = .ok (.aload_n 1, 1) := by decide +kernel
theorem dL_law_1529 : decode cL_law 1529 = .ok (.aload_n 0, 1) := by decide +kernel
theorem dL_law_1530 : decode cL_law 1530 = .ok (.iload 4, 2) := by decide +kernel
theorem dL_law_1532 : decode cL_law 1532 = .ok (.iconst 1, 1) := by decide +kernel
theorem dL_law_1533 : decode cL_law 1533 = .ok (.iadd, 1) := by decide +kernel
theorem dL_law_1534 : decode cL_law 1534 = .ok (.iaload, 1) := by decide +kernel
theorem dL_law_1535 : decode cL_law 1535 = .ok (.aload_n 0, 1) := by decide +kernel
theorem dL_law_1536 : decode cL_law 1536 = .ok (.iload 4, 2) := by decide +kernel
theorem dL_law_1538 : decode cL_law 1538 = .ok (.iconst 2, 1) := by decide +kernel
theorem dL_law_1539 : decode cL_law 1539 = .ok (.iadd, 1) := by decide +kernel
theorem dL_law_1540 : decode cL_law 1540 = .ok (.iaload, 1) := by decide +kernel
theorem dL_law_1541 : decode cL_law 1541 = .ok (.aload_n 0, 1) := by decide +kernel
theorem dL_law_1542 : decode cL_law 1542 = .ok (.iload 4, 2) := by decide +kernel
theorem dL_law_1544 : decode cL_law 1544 = .ok (.iconst 3, 1) := by decide +kernel
theorem dL_law_1545 : decode cL_law 1545 = .ok (.iadd, 1) := by decide +kernel
theorem dL_law_1546 : decode cL_law 1546 = .ok (.iaload, 1) := by decide +kernel
theorem dL_law_1547 : decode cL_law 1547 = .ok (.aload_n 3, 1) := by decide +kernel
theorem dL_law_1548 : decode cL_law 1548 = .ok (.invokestatic 214, 3) := by decide +kernel
theorem dL_law_1551 : decode cL_law 1551 = .ok (.istore 5, 2) := by decide +kernel
theorem dL_law_1553 : decode cL_law 1553 = .ok (.aload_n 2, 1) := by decide +kernel
theorem dL_law_1554 : decode cL_law 1554 = .ok (.aload_n 0, 1) := by decide +kernel
theorem dL_law_1555 : decode cL_law 1555 = .ok (.iload 4, 2) := by decide +kernel
theorem dL_law_1557 : decode cL_law 1557 = .ok (.iconst 1, 1) := by decide +kernel
theorem dL_law_1558 : decode cL_law 1558 = .ok (.iadd, 1) := by decide +kernel
theorem dL_law_1559 : decode cL_law 1559 = .ok (.iaload, 1) := by decide +kernel
theorem dL_law_1560 : decode cL_law 1560 = .ok (.aload_n 0, 1) := by decide +kernel
theorem dL_law_1561 : decode cL_law 1561 = .ok (.iload 4, 2) := by decide +kernel
theorem dL_law_1563 : decode cL_law 1563 = .ok (.iconst 2, 1) := by decide +kernel
theorem dL_law_1564 : decode cL_law 1564 = .ok (.iadd, 1) := by decide +kernel
theorem dL_law_1565 : decode cL_law 1565 = .ok (.iaload, 1) := by decide +kernel
theorem dL_law_1566 : decode cL_law 1566 = .ok (.aload_n 0, 1) := by decide +kernel
theorem dL_law_1567 : decode cL_law 1567 = .ok (.iload 4, 2) := by decide +kernel
theorem dL_law_1569 : decode cL_law 1569 = .ok (.iconst 3, 1) := by decide +kernel
theorem dL_law_1570 : decode cL_law 1570 = .ok (.iadd, 1) := by decide +kernel
theorem dL_law_1571 : decode cL_law 1571 = .ok (.iaload, 1) := by decide +kernel
theorem dL_law_1572 : decode cL_law 1572 = .ok (.invokevirtual 216, 3) := by decide +kernel
theorem dL_law_1575 : decode cL_law 1575 = .ok (.istore 6, 2) := by decide +kernel
theorem dL_law_1577 : decode cL_law 1577 = .ok (.aload_n 2, 1) := by decide +kernel
theorem dL_law_1578 : decode cL_law 1578 = .ok (.invokevirtual 151, 3) := by decide +kernel
theorem dL_law_1581 : decode cL_law 1581 = .ok (.iload 5, 2) := by decide +kernel
theorem dL_law_1583 : decode cL_law 1583 = .ok (.if_icmp .eq 5, 3) := by decide +kernel
theorem dL_law_1586 : decode cL_law 1586 = .ok (.iconst 0, 1) := by decide +kernel
theorem dL_law_1587 : decode cL_law 1587 = .ok (.ireturn, 1) := by decide +kernel
theorem dL_law_1588 : decode cL_law 1588 = .ok (.iload 5, 2) := by decide +kernel
theorem dL_law_1590 : decode cL_law 1590 = .ok (.ifCond .ne 15, 3) := by decide +kernel
theorem dL_law_1593 : decode cL_law 1593 = .ok (.aload_n 3, 1) := by decide +kernel
theorem dL_law_1594 : decode cL_law 1594 = .ok (.iconst 0, 1) := by decide +kernel
theorem dL_law_1595 : decode cL_law 1595 = .ok (.laload, 1) := by decide +kernel
theorem dL_law_1596 : decode cL_law 1596 = .ok (.iload 6, 2) := by decide +kernel
theorem dL_law_1598 : decode cL_law 1598 = .ok (.i2l, 1) := by decide +kernel
theorem dL_law_1599 : decode cL_law 1599 = .ok (.lcmp, 1) := by decide +kernel
theorem dL_law_1600 : decode cL_law 1600 = .ok (.ifCond .eq 5, 3) := by decide +kernel
theorem dL_law_1603 : decode cL_law 1603 = .ok (.iconst 0, 1) := by decide +kernel
theorem dL_law_1604 : decode cL_law 1604 = .ok (.ireturn, 1) := by decide +kernel
theorem dL_law_1605 : decode cL_law 1605 = .ok (.goto 1469, 3) := by decide +kernel
theorem dL_law_1608 : decode cL_law 1608 = .ok (.aload_n 1, 1) := by decide +kernel
theorem dL_law_1609 : decode cL_law 1609 = .ok (.aload_n 0, 1) := by decide +kernel
theorem dL_law_1610 : decode cL_law 1610 = .ok (.iload 4, 2) := by decide +kernel
theorem dL_law_1612 : decode cL_law 1612 = .ok (.iconst 1, 1) := by decide +kernel
theorem dL_law_1613 : decode cL_law 1613 = .ok (.iadd, 1) := by decide +kernel
theorem dL_law_1614 : decode cL_law 1614 = .ok (.iaload, 1) := by decide +kernel
theorem dL_law_1615 : decode cL_law 1615 = .ok (.aload_n 0, 1) := by decide +kernel
theorem dL_law_1616 : decode cL_law 1616 = .ok (.iload 4, 2) := by decide +kernel
theorem dL_law_1618 : decode cL_law 1618 = .ok (.iconst 2, 1) := by decide +kernel
theorem dL_law_1619 : decode cL_law 1619 = .ok (.iadd, 1) := by decide +kernel
theorem dL_law_1620 : decode cL_law 1620 = .ok (.iaload, 1) := by decide +kernel
theorem dL_law_1621 : decode cL_law 1621 = .ok (.aload_n 3, 1) := by decide +kernel
theorem dL_law_1622 : decode cL_law 1622 = .ok (.invokestatic 217, 3) := by decide +kernel
theorem dL_law_1625 : decode cL_law 1625 = .ok (.istore 5, 2) := by decide +kernel
theorem dL_law_1627 : decode cL_law 1627 = .ok (.aload_n 2, 1) := by decide +kernel
theorem dL_law_1628 : decode cL_law 1628 = .ok (.aload_n 0, 1) := by decide +kernel
theorem dL_law_1629 : decode cL_law 1629 = .ok (.iload 4, 2) := by decide +kernel
theorem dL_law_1631 : decode cL_law 1631 = .ok (.iconst 1, 1) := by decide +kernel
theorem dL_law_1632 : decode cL_law 1632 = .ok (.iadd, 1) := by decide +kernel
theorem dL_law_1633 : decode cL_law 1633 = .ok (.iaload, 1) := by decide +kernel
theorem dL_law_1634 : decode cL_law 1634 = .ok (.aload_n 0, 1) := by decide +kernel
theorem dL_law_1635 : decode cL_law 1635 = .ok (.iload 4, 2) := by decide +kernel
theorem dL_law_1637 : decode cL_law 1637 = .ok (.iconst 2, 1) := by decide +kernel
theorem dL_law_1638 : decode cL_law 1638 = .ok (.iadd, 1) := by decide +kernel
theorem dL_law_1639 : decode cL_law 1639 = .ok (.iaload, 1) := by decide +kernel
theorem dL_law_1640 : decode cL_law 1640 = .ok (.invokevirtual 219, 3) := by decide +kernel
theorem dL_law_1643 : decode cL_law 1643 = .ok (.istore 6, 2) := by decide +kernel
theorem dL_law_1645 : decode cL_law 1645 = .ok (.aload_n 2, 1) := by decide +kernel
theorem dL_law_1646 : decode cL_law 1646 = .ok (.invokevirtual 151, 3) := by decide +kernel
theorem dL_law_1649 : decode cL_law 1649 = .ok (.iload 5, 2) := by decide +kernel
theorem dL_law_1651 : decode cL_law 1651 = .ok (.if_icmp .eq 5, 3) := by decide +kernel
theorem dL_law_1654 : decode cL_law 1654 = .ok (.iconst 0, 1) := by decide +kernel
theorem dL_law_1655 : decode cL_law 1655 = .ok (.ireturn, 1) := by decide +kernel
theorem dL_law_1656 : decode cL_law 1656 = .ok (.iload 5, 2) := by decide +kernel
theorem dL_law_1658 : decode cL_law 1658 = .ok (.ifCond .ne 15, 3) := by decide +kernel
theorem dL_law_1661 : decode cL_law 1661 = .ok (.aload_n 3, 1) := by decide +kernel
theorem dL_law_1662 : decode cL_law 1662 = .ok (.iconst 0, 1) := by decide +kernel
theorem dL_law_1663 : decode cL_law 1663 = .ok (.laload, 1) := by decide +kernel
theorem dL_law_1664 : decode cL_law 1664 = .ok (.iload 6, 2) := by decide +kernel
theorem dL_law_1666 : decode cL_law 1666 = .ok (.i2l, 1) := by decide +kernel
theorem dL_law_1667 : decode cL_law 1667 = .ok (.lcmp, 1) := by decide +kernel
theorem dL_law_1668 : decode cL_law 1668 = .ok (.ifCond .eq 5, 3) := by decide +kernel
theorem dL_law_1671 : decode cL_law 1671 = .ok (.iconst 0, 1) := by decide +kernel
theorem dL_law_1672 : decode cL_law 1672 = .ok (.ireturn, 1) := by decide +kernel
theorem dL_law_1673 : decode cL_law 1673 = .ok (.goto 1401, 3) := by decide +kernel
theorem dL_law_1676 : decode cL_law 1676 = .ok (.aload_n 1, 1) := by decide +kernel
theorem dL_law_1677 : decode cL_law 1677 = .ok (.aload_n 0, 1) := by decide +kernel
theorem dL_law_1678 : decode cL_law 1678 = .ok (.iload 4, 2) := by decide +kernel
theorem dL_law_1680 : decode cL_law 1680 = .ok (.iconst 1, 1) := by decide +kernel
theorem dL_law_1681 : decode cL_law 1681 = .ok (.iadd, 1) := by decide +kernel
theorem dL_law_1682 : decode cL_law 1682 = .ok (.iaload, 1) := by decide +kernel
theorem dL_law_1683 : decode cL_law 1683 = .ok (.aload_n 0, 1) := by decide +kernel
theorem dL_law_1684 : decode cL_law 1684 = .ok (.iload 4, 2) := by decide +kernel
theorem dL_law_1686 : decode cL_law 1686 = .ok (.iconst 2, 1) := by decide +kernel
theorem dL_law_1687 : decode cL_law 1687 = .ok (.iadd, 1) := by decide +kernel
theorem dL_law_1688 : decode cL_law 1688 = .ok (.iaload, 1) := by decide +kernel
theorem dL_law_1689 : decode cL_law 1689 = .ok (.ifCond .eq 7, 3) := by decide +kernel
theorem dL_law_1692 : decode cL_law 1692 = .ok (.iconst 1, 1) := by decide +kernel
theorem dL_law_1693 : decode cL_law 1693 = .ok (.goto 4, 3) := by decide +kernel
theorem dL_law_1696 : decode cL_law 1696 = .ok (.iconst 0, 1) := by decide +kernel
theorem dL_law_1697 : decode cL_law 1697 = .ok (.aload_n 3, 1) := by decide +kernel
theorem dL_law_1698 : decode cL_law 1698 = .ok (.invokestatic 220, 3) := by decide +kernel
theorem dL_law_1701 : decode cL_law 1701 = .ok (.istore 5, 2) := by decide +kernel
theorem dL_law_1703 : decode cL_law 1703 = .ok (.aload_n 2, 1) := by decide +kernel
theorem dL_law_1704 : decode cL_law 1704 = .ok (.aload_n 0, 1) := by decide +kernel
theorem dL_law_1705 : decode cL_law 1705 = .ok (.iload 4, 2) := by decide +kernel
theorem dL_law_1707 : decode cL_law 1707 = .ok (.iconst 1, 1) := by decide +kernel
theorem dL_law_1708 : decode cL_law 1708 = .ok (.iadd, 1) := by decide +kernel
theorem dL_law_1709 : decode cL_law 1709 = .ok (.iaload, 1) := by decide +kernel
theorem dL_law_1710 : decode cL_law 1710 = .ok (.aload_n 0, 1) := by decide +kernel
theorem dL_law_1711 : decode cL_law 1711 = .ok (.iload 4, 2) := by decide +kernel
theorem dL_law_1713 : decode cL_law 1713 = .ok (.iconst 2, 1) := by decide +kernel
theorem dL_law_1714 : decode cL_law 1714 = .ok (.iadd, 1) := by decide +kernel
theorem dL_law_1715 : decode cL_law 1715 = .ok (.iaload, 1) := by decide +kernel
theorem dL_law_1716 : decode cL_law 1716 = .ok (.ifCond .eq 7, 3) := by decide +kernel
theorem dL_law_1719 : decode cL_law 1719 = .ok (.iconst 1, 1) := by decide +kernel
theorem dL_law_1720 : decode cL_law 1720 = .ok (.goto 4, 3) := by decide +kernel
theorem dL_law_1723 : decode cL_law 1723 = .ok (.iconst 0, 1) := by decide +kernel
theorem dL_law_1724 : decode cL_law 1724 = .ok (.invokevirtual 223, 3) := by decide +kernel
theorem dL_law_1727 : decode cL_law 1727 = .ok (.istore 6, 2) := by decide +kernel
theorem dL_law_1729 : decode cL_law 1729 = .ok (.aload_n 2, 1) := by decide +kernel
theorem dL_law_1730 : decode cL_law 1730 = .ok (.invokevirtual 151, 3) := by decide +kernel
theorem dL_law_1733 : decode cL_law 1733 = .ok (.iload 5, 2) := by decide +kernel
theorem dL_law_1735 : decode cL_law 1735 = .ok (.if_icmp .eq 5, 3) := by decide +kernel
theorem dL_law_1738 : decode cL_law 1738 = .ok (.iconst 0, 1) := by decide +kernel
theorem dL_law_1739 : decode cL_law 1739 = .ok (.ireturn, 1) := by decide +kernel
theorem dL_law_1740 : decode cL_law 1740 = .ok (.iload 5, 2) := by decide +kernel
theorem dL_law_1742 : decode cL_law 1742 = .ok (.ifCond .ne 15, 3) := by decide +kernel
theorem dL_law_1745 : decode cL_law 1745 = .ok (.aload_n 3, 1) := by decide +kernel
theorem dL_law_1746 : decode cL_law 1746 = .ok (.iconst 0, 1) := by decide +kernel
theorem dL_law_1747 : decode cL_law 1747 = .ok (.laload, 1) := by decide +kernel
theorem dL_law_1748 : decode cL_law 1748 = .ok (.iload 6, 2) := by decide +kernel
theorem dL_law_1750 : decode cL_law 1750 = .ok (.i2l, 1) := by decide +kernel
theorem dL_law_1751 : decode cL_law 1751 = .ok (.lcmp, 1) := by decide +kernel
theorem dL_law_1752 : decode cL_law 1752 = .ok (.ifCond .eq 5, 3) := by decide +kernel
theorem dL_law_1755 : decode cL_law 1755 = .ok (.iconst 0, 1) := by decide +kernel
theorem dL_law_1756 : decode cL_law 1756 = .ok (.ireturn, 1) := by decide +kernel
theorem dL_law_1757 : decode cL_law 1757 = .ok (.goto 1317, 3) := by decide +kernel
theorem dL_law_1760 : decode cL_law 1760 = .ok (.aload_n 1, 1) := by decide +kernel
theorem dL_law_1761 : decode cL_law 1761 = .ok (.aload_n 0, 1) := by decide +kernel
theorem dL_law_1762 : decode cL_law 1762 = .ok (.iload 4, 2) := by decide +kernel
theorem dL_law_1764 : decode cL_law 1764 = .ok (.iconst 1, 1) := by decide +kernel
theorem dL_law_1765 : decode cL_law 1765 = .ok (.iadd, 1) := by decide +kernel
theorem dL_law_1766 : decode cL_law 1766 = .ok (.iaload, 1) := by decide +kernel
theorem dL_law_1767 : decode cL_law 1767 = .ok (.aload_n 0, 1) := by decide +kernel
theorem dL_law_1768 : decode cL_law 1768 = .ok (.iload 4, 2) := by decide +kernel
theorem dL_law_1770 : decode cL_law 1770 = .ok (.iconst 2, 1) := by decide +kernel
theorem dL_law_1771 : decode cL_law 1771 = .ok (.iadd, 1) := by decide +kernel
theorem dL_law_1772 : decode cL_law 1772 = .ok (.iaload, 1) := by decide +kernel
theorem dL_law_1773 : decode cL_law 1773 = .ok (.aload_n 3, 1) := by decide +kernel
theorem dL_law_1774 : decode cL_law 1774 = .ok (.invokestatic 224, 3) := by decide +kernel
theorem dL_law_1777 : decode cL_law 1777 = .ok (.istore 5, 2) := by decide +kernel
theorem dL_law_1779 : decode cL_law 1779 = .ok (.aload_n 2, 1) := by decide +kernel
theorem dL_law_1780 : decode cL_law 1780 = .ok (.aload_n 0, 1) := by decide +kernel
theorem dL_law_1781 : decode cL_law 1781 = .ok (.iload 4, 2) := by decide +kernel
theorem dL_law_1783 : decode cL_law 1783 = .ok (.iconst 1, 1) := by decide +kernel
theorem dL_law_1784 : decode cL_law 1784 = .ok (.iadd, 1) := by decide +kernel
theorem dL_law_1785 : decode cL_law 1785 = .ok (.iaload, 1) := by decide +kernel
theorem dL_law_1786 : decode cL_law 1786 = .ok (.aload_n 0, 1) := by decide +kernel
theorem dL_law_1787 : decode cL_law 1787 = .ok (.iload 4, 2) := by decide +kernel
theorem dL_law_1789 : decode cL_law 1789 = .ok (.iconst 2, 1) := by decide +kernel
theorem dL_law_1790 : decode cL_law 1790 = .ok (.iadd, 1) := by decide +kernel
theorem dL_law_1791 : decode cL_law 1791 = .ok (.iaload, 1) := by decide +kernel
theorem dL_law_1792 : decode cL_law 1792 = .ok (.invokevirtual 226, 3) := by decide +kernel
theorem dL_law_1795 : decode cL_law 1795 = .ok (.istore 6, 2) := by decide +kernel
theorem dL_law_1797 : decode cL_law 1797 = .ok (.aload_n 2, 1) := by decide +kernel
theorem dL_law_1798 : decode cL_law 1798 = .ok (.invokevirtual 151, 3) := by decide +kernel
theorem dL_law_1801 : decode cL_law 1801 = .ok (.iload 5, 2) := by decide +kernel
theorem dL_law_1803 : decode cL_law 1803 = .ok (.if_icmp .eq 5, 3) := by decide +kernel
theorem dL_law_1806 : decode cL_law 1806 = .ok (.iconst 0, 1) := by decide +kernel
theorem dL_law_1807 : decode cL_law 1807 = .ok (.ireturn, 1) := by decide +kernel
theorem dL_law_1808 : decode cL_law 1808 = .ok (.iload 5, 2) := by decide +kernel
theorem dL_law_1810 : decode cL_law 1810 = .ok (.ifCond .ne 15, 3) := by decide +kernel
theorem dL_law_1813 : decode cL_law 1813 = .ok (.aload_n 3, 1) := by decide +kernel
theorem dL_law_1814 : decode cL_law 1814 = .ok (.iconst 0, 1) := by decide +kernel
theorem dL_law_1815 : decode cL_law 1815 = .ok (.laload, 1) := by decide +kernel
theorem dL_law_1816 : decode cL_law 1816 = .ok (.iload 6, 2) := by decide +kernel
theorem dL_law_1818 : decode cL_law 1818 = .ok (.i2l, 1) := by decide +kernel
theorem dL_law_1819 : decode cL_law 1819 = .ok (.lcmp, 1) := by decide +kernel
theorem dL_law_1820 : decode cL_law 1820 = .ok (.ifCond .eq 5, 3) := by decide +kernel
theorem dL_law_1823 : decode cL_law 1823 = .ok (.iconst 0, 1) := by decide +kernel
theorem dL_law_1824 : decode cL_law 1824 = .ok (.ireturn, 1) := by decide +kernel
theorem dL_law_1825 : decode cL_law 1825 = .ok (.goto 1249, 3) := by decide +kernel
theorem dL_law_1828 : decode cL_law 1828 = .ok (.aload_n 1, 1) := by decide +kernel
theorem dL_law_1829 : decode cL_law 1829 = .ok (.aload_n 0, 1) := by decide +kernel
theorem dL_law_1830 : decode cL_law 1830 = .ok (.iload 4, 2) := by decide +kernel
theorem dL_law_1832 : decode cL_law 1832 = .ok (.iconst 1, 1) := by decide +kernel
theorem dL_law_1833 : decode cL_law 1833 = .ok (.iadd, 1) := by decide +kernel
theorem dL_law_1834 : decode cL_law 1834 = .ok (.iaload, 1) := by decide +kernel
theorem dL_law_1835 : decode cL_law 1835 = .ok (.aload_n 0, 1) := by decide +kernel
theorem dL_law_1836 : decode cL_law 1836 = .ok (.iload 4, 2) := by decide +kernel
theorem dL_law_1838 : decode cL_law 1838 = .ok (.iconst 2, 1) := by decide +kernel
theorem dL_law_1839 : decode cL_law 1839 = .ok (.iadd, 1) := by decide +kernel
theorem dL_law_1840 : decode cL_law 1840 = .ok (.iaload, 1) := by decide +kernel
theorem dL_law_1841 : decode cL_law 1841 = .ok (.aload_n 0, 1) := by decide +kernel
theorem dL_law_1842 : decode cL_law 1842 = .ok (.iload 4, 2) := by decide +kernel
theorem dL_law_1844 : decode cL_law 1844 = .ok (.iconst 3, 1) := by decide +kernel
theorem dL_law_1845 : decode cL_law 1845 = .ok (.iadd, 1) := by decide +kernel
theorem dL_law_1846 : decode cL_law 1846 = .ok (.iaload, 1) := by decide +kernel
theorem dL_law_1847 : decode cL_law 1847 = .ok (.aload_n 0, 1) := by decide +kernel
theorem dL_law_1848 : decode cL_law 1848 = .ok (.iload 4, 2) := by decide +kernel
theorem dL_law_1850 : decode cL_law 1850 = .ok (.iconst 4, 1) := by decide +kernel
theorem dL_law_1851 : decode cL_law 1851 = .ok (.iadd, 1) := by decide +kernel
theorem dL_law_1852 : decode cL_law 1852 = .ok (.iaload, 1) := by decide +kernel
theorem dL_law_1853 : decode cL_law 1853 = .ok (.aload_n 0, 1) := by decide +kernel
theorem dL_law_1854 : decode cL_law 1854 = .ok (.iload 4, 2) := by decide +kernel
theorem dL_law_1856 : decode cL_law 1856 = .ok (.iconst 5, 1) := by decide +kernel
