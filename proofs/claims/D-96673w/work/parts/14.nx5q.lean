set_option maxRecDepth 100000
theorem q89 : (Jvm.Cond.initialized "SeenInOrderOfAgeModel") ∈ lw_all := lw_g (lw_at lw_m1 7 rfl) rfl
theorem q1518 : (Jvm.Cond.instantiable "SeenInOrderOfAgeModel" (33 : Nat)) ∈ lw_all := lw_g (lw_at lw_m6 236 rfl) rfl
theorem q1520 : (Jvm.Cond.instanceMethod ({ cls := "SeenInOrderOfAgeModel", name := "<init>", desc := "()V" } : Jvm.MethodName)) ∈ lw_all := lw_g (lw_at lw_m6 238 rfl) rfl
theorem q1521 : (Jvm.Cond.code ({ cls := "SeenInOrderOfAgeModel", name := "<init>", desc := "()V" } : Jvm.MethodName) prog_17_method_1_code (2 : Nat) (Option.none : Option Jvm.ClassFile.FieldType)) ∈ lw_all := lw_g (lw_at lw_m6 239 rfl) rfl
theorem q1522 : (Jvm.Cond.methodLink "SeenInOrderOfAgeModel" (1 : Nat) ({ cls := "java/lang/Object", name := "<init>", desc := "()V" } : Jvm.MethodName)) ∈ lw_all := lw_g (lw_at lw_m7 0 rfl) rfl
theorem q1523 : (Jvm.Cond.fieldLink "SeenInOrderOfAgeModel" (9 : Nat) "SeenInOrderOfAgeModel" "thing" "[I") ∈ lw_all := lw_g (lw_at lw_m7 1 rfl) rfl
theorem q1524 : (Jvm.Cond.fieldLink "SeenInOrderOfAgeModel" (89 : Nat) "SeenInOrderOfAgeModel" "many" "I") ∈ lw_all := lw_g (lw_at lw_m7 2 rfl) rfl
theorem q1525 : (Jvm.Cond.fieldLink "SeenInOrderOfAgeModel" (13 : Nat) "SeenInOrderOfAgeModel" "kind" "[I") ∈ lw_all := lw_g (lw_at lw_m7 3 rfl) rfl
theorem q1526 : (Jvm.Cond.fieldLink "SeenInOrderOfAgeModel" (16 : Nat) "SeenInOrderOfAgeModel" "own" "[I") ∈ lw_all := lw_g (lw_at lw_m7 4 rfl) rfl
theorem q1527 : (Jvm.Cond.fieldLink "SeenInOrderOfAgeModel" (19 : Nat) "SeenInOrderOfAgeModel" "age" "[I") ∈ lw_all := lw_g (lw_at lw_m7 5 rfl) rfl
theorem q1528 : (Jvm.Cond.fieldLink "SeenInOrderOfAgeModel" (22 : Nat) "SeenInOrderOfAgeModel" "liked" "[I") ∈ lw_all := lw_g (lw_at lw_m7 6 rfl) rfl
theorem q1529 : (Jvm.Cond.fieldLink "SeenInOrderOfAgeModel" (25 : Nat) "SeenInOrderOfAgeModel" "comes" "[I") ∈ lw_all := lw_g (lw_at lw_m7 7 rfl) rfl
theorem q1530 : (Jvm.Cond.fieldLink "SeenInOrderOfAgeModel" (28 : Nat) "SeenInOrderOfAgeModel" "shine" "[I") ∈ lw_all := lw_g (lw_at lw_m7 8 rfl) rfl
theorem q1531 : (Jvm.Cond.fieldLink "SeenInOrderOfAgeModel" (31 : Nat) "SeenInOrderOfAgeModel" "has" "[I") ∈ lw_all := lw_g (lw_at lw_m7 9 rfl) rfl
theorem q1532 : (Jvm.Cond.fieldLink "SeenInOrderOfAgeModel" (304 : Nat) "SeenInOrderOfAgeModel" "evenings" "I") ∈ lw_all := lw_g (lw_at lw_m7 10 rfl) rfl
theorem q1533 : (Jvm.Cond.fieldLink "SeenInOrderOfAgeModel" (81 : Nat) "SeenInOrderOfAgeModel" "seed" "I") ∈ lw_all := lw_g (lw_at lw_m7 11 rfl) rfl
theorem q1534 : (Jvm.Cond.fieldLink "SeenInOrderOfAgeModel" (131 : Nat) "SeenInOrderOfAgeModel" "taped" "I") ∈ lw_all := lw_g (lw_at lw_m7 12 rfl) rfl
theorem q1535 : (Jvm.Cond.fieldLink "SeenInOrderOfAgeModel" (34 : Nat) "SeenInOrderOfAgeModel" "tape" "[I") ∈ lw_all := lw_g (lw_at lw_m7 13 rfl) rfl
theorem q1536 : (Jvm.Cond.fieldLink "SeenInOrderOfAgeModel" (137 : Nat) "SeenInOrderOfAgeModel" "from" "I") ∈ lw_all := lw_g (lw_at lw_m7 14 rfl) rfl
theorem q1537 : (Jvm.Cond.fieldLink "SeenInOrderOfAgeModel" (134 : Nat) "SeenInOrderOfAgeModel" "to" "I") ∈ lw_all := lw_g (lw_at lw_m7 15 rfl) rfl
theorem q1538 : (Jvm.Cond.fieldLink "SeenInOrderOfAgeModel" (140 : Nat) "SeenInOrderOfAgeModel" "token" "I") ∈ lw_all := lw_g (lw_at lw_m7 16 rfl) rfl
theorem q1539 : (Jvm.Cond.fieldLink "SeenInOrderOfAgeModel" (149 : Nat) "SeenInOrderOfAgeModel" "value" "I") ∈ lw_all := lw_g (lw_at lw_m7 17 rfl) rfl
theorem q1540 : (Jvm.Cond.fieldLink "SeenInOrderOfAgeModel" (37 : Nat) "SeenInOrderOfAgeModel" "holding" "[I") ∈ lw_all := lw_g (lw_at lw_m7 18 rfl) rfl
theorem q1541 : (Jvm.Cond.fieldLink "SeenInOrderOfAgeModel" (40 : Nat) "SeenInOrderOfAgeModel" "rowLength" "[I") ∈ lw_all := lw_g (lw_at lw_m7 19 rfl) rfl
theorem q1542 : (Jvm.Cond.fieldLink "SeenInOrderOfAgeModel" (43 : Nat) "SeenInOrderOfAgeModel" "rowOf" "[J") ∈ lw_all := lw_g (lw_at lw_m7 20 rfl) rfl
theorem q1543 : (Jvm.Cond.fieldLink "SeenInOrderOfAgeModel" (47 : Nat) "SeenInOrderOfAgeModel" "refusals" "[I") ∈ lw_all := lw_g (lw_at lw_m7 21 rfl) rfl
theorem q1544 : (Jvm.Cond.fieldLink "SeenInOrderOfAgeModel" (317 : Nat) "SeenInOrderOfAgeModel" "imaged" "Z") ∈ lw_all := lw_g (lw_at lw_m7 22 rfl) rfl
theorem q1545 : (Jvm.Cond.fieldLink "SeenInOrderOfAgeModel" (50 : Nat) "SeenInOrderOfAgeModel" "old" "[I") ∈ lw_all := lw_g (lw_at lw_m7 23 rfl) rfl
theorem q1546 : (Jvm.Cond.fieldLink "SeenInOrderOfAgeModel" (53 : Nat) "SeenInOrderOfAgeModel" "ahead" "[I") ∈ lw_all := lw_g (lw_at lw_m7 24 rfl) rfl
theorem q1547 : (Jvm.Cond.fieldLink "SeenInOrderOfAgeModel" (56 : Nat) "SeenInOrderOfAgeModel" "there" "[I") ∈ lw_all := lw_g (lw_at lw_m7 25 rfl) rfl
theorem q1548 : (Jvm.Cond.fieldLink "SeenInOrderOfAgeModel" (219 : Nat) "SeenInOrderOfAgeModel" "looks" "I") ∈ lw_all := lw_g (lw_at lw_m7 26 rfl) rfl
theorem q1549 : (Jvm.Cond.fieldLink "SeenInOrderOfAgeModel" (59 : Nat) "SeenInOrderOfAgeModel" "order" "[I") ∈ lw_all := lw_g (lw_at lw_m7 27 rfl) rfl
theorem q1550 : (Jvm.Cond.fieldLink "SeenInOrderOfAgeModel" (62 : Nat) "SeenInOrderOfAgeModel" "took" "[I") ∈ lw_all := lw_g (lw_at lw_m7 28 rfl) rfl
theorem q1551 : (Jvm.Cond.fieldLink "SeenInOrderOfAgeModel" (65 : Nat) "SeenInOrderOfAgeModel" "firstOf" "[I") ∈ lw_all := lw_g (lw_at lw_m7 29 rfl) rfl
theorem q1552 : (Jvm.Cond.fieldLink "SeenInOrderOfAgeModel" (68 : Nat) "SeenInOrderOfAgeModel" "wish" "[I") ∈ lw_all := lw_g (lw_at lw_m7 30 rfl) rfl
theorem q1553 : (Jvm.Cond.fieldLink "SeenInOrderOfAgeModel" (71 : Nat) "SeenInOrderOfAgeModel" "out" "[Z") ∈ lw_all := lw_g (lw_at lw_m7 31 rfl) rfl
theorem q1554 : (Jvm.Cond.fieldLink "SeenInOrderOfAgeModel" (75 : Nat) "SeenInOrderOfAgeModel" "gets" "[I") ∈ lw_all := lw_g (lw_at lw_m7 32 rfl) rfl
theorem q1555 : (Jvm.Cond.fieldLink "SeenInOrderOfAgeModel" (78 : Nat) "SeenInOrderOfAgeModel" "more" "[I") ∈ lw_all := lw_g (lw_at lw_m7 33 rfl) rfl
theorem q1556 : (Jvm.Cond.laysFinal "SeenInOrderOfAgeModel" "SeenInOrderOfAgeModel" "thing" "[I") ∈ lw_all := lw_g (lw_at lw_m7 34 rfl) rfl
theorem q1557 : (Jvm.Cond.soleField "SeenInOrderOfAgeModel" "thing") ∈ lw_all := lw_g (lw_at lw_m7 35 rfl) rfl
theorem q1558 : (Jvm.Cond.lays "SeenInOrderOfAgeModel" "SeenInOrderOfAgeModel" "many" "I") ∈ lw_all := lw_g (lw_at lw_m7 36 rfl) rfl
theorem q1559 : (Jvm.Cond.soleField "SeenInOrderOfAgeModel" "many") ∈ lw_all := lw_g (lw_at lw_m7 37 rfl) rfl
theorem q1560 : (Jvm.Cond.laysFinal "SeenInOrderOfAgeModel" "SeenInOrderOfAgeModel" "kind" "[I") ∈ lw_all := lw_g (lw_at lw_m7 38 rfl) rfl
theorem q1561 : (Jvm.Cond.soleField "SeenInOrderOfAgeModel" "kind") ∈ lw_all := lw_g (lw_at lw_m7 39 rfl) rfl
theorem q1562 : (Jvm.Cond.laysFinal "SeenInOrderOfAgeModel" "SeenInOrderOfAgeModel" "own" "[I") ∈ lw_all := lw_g (lw_at lw_m7 40 rfl) rfl
theorem q1563 : (Jvm.Cond.soleField "SeenInOrderOfAgeModel" "own") ∈ lw_all := lw_g (lw_at lw_m7 41 rfl) rfl
theorem q1564 : (Jvm.Cond.laysFinal "SeenInOrderOfAgeModel" "SeenInOrderOfAgeModel" "age" "[I") ∈ lw_all := lw_g (lw_at lw_m7 42 rfl) rfl
theorem q1565 : (Jvm.Cond.soleField "SeenInOrderOfAgeModel" "age") ∈ lw_all := lw_g (lw_at lw_m7 43 rfl) rfl
theorem q1566 : (Jvm.Cond.laysFinal "SeenInOrderOfAgeModel" "SeenInOrderOfAgeModel" "liked" "[I") ∈ lw_all := lw_g (lw_at lw_m7 44 rfl) rfl
theorem q1567 : (Jvm.Cond.soleField "SeenInOrderOfAgeModel" "liked") ∈ lw_all := lw_g (lw_at lw_m7 45 rfl) rfl
theorem q1568 : (Jvm.Cond.laysFinal "SeenInOrderOfAgeModel" "SeenInOrderOfAgeModel" "comes" "[I") ∈ lw_all := lw_g (lw_at lw_m7 46 rfl) rfl
theorem q1569 : (Jvm.Cond.soleField "SeenInOrderOfAgeModel" "comes") ∈ lw_all := lw_g (lw_at lw_m7 47 rfl) rfl
theorem q1570 : (Jvm.Cond.laysFinal "SeenInOrderOfAgeModel" "SeenInOrderOfAgeModel" "shine" "[I") ∈ lw_all := lw_g (lw_at lw_m7 48 rfl) rfl
theorem q1571 : (Jvm.Cond.soleField "SeenInOrderOfAgeModel" "shine") ∈ lw_all := lw_g (lw_at lw_m7 49 rfl) rfl
theorem q1572 : (Jvm.Cond.laysFinal "SeenInOrderOfAgeModel" "SeenInOrderOfAgeModel" "has" "[I") ∈ lw_all := lw_g (lw_at lw_m7 50 rfl) rfl
theorem q1573 : (Jvm.Cond.soleField "SeenInOrderOfAgeModel" "has") ∈ lw_all := lw_g (lw_at lw_m7 51 rfl) rfl
theorem q1574 : (Jvm.Cond.lays "SeenInOrderOfAgeModel" "SeenInOrderOfAgeModel" "evenings" "I") ∈ lw_all := lw_g (lw_at lw_m7 52 rfl) rfl
theorem q1575 : (Jvm.Cond.soleField "SeenInOrderOfAgeModel" "evenings") ∈ lw_all := lw_g (lw_at lw_m7 53 rfl) rfl
theorem q1576 : (Jvm.Cond.lays "SeenInOrderOfAgeModel" "SeenInOrderOfAgeModel" "seed" "I") ∈ lw_all := lw_g (lw_at lw_m7 54 rfl) rfl
theorem q1577 : (Jvm.Cond.soleField "SeenInOrderOfAgeModel" "seed") ∈ lw_all := lw_g (lw_at lw_m7 55 rfl) rfl
theorem q1578 : (Jvm.Cond.lays "SeenInOrderOfAgeModel" "SeenInOrderOfAgeModel" "taped" "I") ∈ lw_all := lw_g (lw_at lw_m7 56 rfl) rfl
theorem q1579 : (Jvm.Cond.soleField "SeenInOrderOfAgeModel" "taped") ∈ lw_all := lw_g (lw_at lw_m7 57 rfl) rfl
theorem q1580 : (Jvm.Cond.laysFinal "SeenInOrderOfAgeModel" "SeenInOrderOfAgeModel" "tape" "[I") ∈ lw_all := lw_g (lw_at lw_m7 58 rfl) rfl
theorem q1581 : (Jvm.Cond.soleField "SeenInOrderOfAgeModel" "tape") ∈ lw_all := lw_g (lw_at lw_m7 59 rfl) rfl
theorem q1582 : (Jvm.Cond.lays "SeenInOrderOfAgeModel" "SeenInOrderOfAgeModel" "from" "I") ∈ lw_all := lw_g (lw_at lw_m7 60 rfl) rfl
theorem q1583 : (Jvm.Cond.soleField "SeenInOrderOfAgeModel" "from") ∈ lw_all := lw_g (lw_at lw_m7 61 rfl) rfl
theorem q1584 : (Jvm.Cond.lays "SeenInOrderOfAgeModel" "SeenInOrderOfAgeModel" "to" "I") ∈ lw_all := lw_g (lw_at lw_m7 62 rfl) rfl
theorem q1585 : (Jvm.Cond.soleField "SeenInOrderOfAgeModel" "to") ∈ lw_all := lw_g (lw_at lw_m7 63 rfl) rfl
theorem q1586 : (Jvm.Cond.lays "SeenInOrderOfAgeModel" "SeenInOrderOfAgeModel" "token" "I") ∈ lw_all := lw_g (lw_at lw_m7 64 rfl) rfl
theorem q1587 : (Jvm.Cond.soleField "SeenInOrderOfAgeModel" "token") ∈ lw_all := lw_g (lw_at lw_m7 65 rfl) rfl
theorem q1588 : (Jvm.Cond.lays "SeenInOrderOfAgeModel" "SeenInOrderOfAgeModel" "value" "I") ∈ lw_all := lw_g (lw_at lw_m7 66 rfl) rfl
theorem q1589 : (Jvm.Cond.soleField "SeenInOrderOfAgeModel" "value") ∈ lw_all := lw_g (lw_at lw_m7 67 rfl) rfl
theorem q1590 : (Jvm.Cond.laysFinal "SeenInOrderOfAgeModel" "SeenInOrderOfAgeModel" "holding" "[I") ∈ lw_all := lw_g (lw_at lw_m7 68 rfl) rfl
theorem q1591 : (Jvm.Cond.soleField "SeenInOrderOfAgeModel" "holding") ∈ lw_all := lw_g (lw_at lw_m7 69 rfl) rfl
theorem q1592 : (Jvm.Cond.laysFinal "SeenInOrderOfAgeModel" "SeenInOrderOfAgeModel" "rowLength" "[I") ∈ lw_all := lw_g (lw_at lw_m7 70 rfl) rfl
theorem q1593 : (Jvm.Cond.soleField "SeenInOrderOfAgeModel" "rowLength") ∈ lw_all := lw_g (lw_at lw_m7 71 rfl) rfl
theorem q1594 : (Jvm.Cond.laysFinal "SeenInOrderOfAgeModel" "SeenInOrderOfAgeModel" "rowOf" "[J") ∈ lw_all := lw_g (lw_at lw_m7 72 rfl) rfl
theorem q1595 : (Jvm.Cond.soleField "SeenInOrderOfAgeModel" "rowOf") ∈ lw_all := lw_g (lw_at lw_m7 73 rfl) rfl
theorem q1596 : (Jvm.Cond.laysFinal "SeenInOrderOfAgeModel" "SeenInOrderOfAgeModel" "refusals" "[I") ∈ lw_all := lw_g (lw_at lw_m7 74 rfl) rfl
theorem q1597 : (Jvm.Cond.soleField "SeenInOrderOfAgeModel" "refusals") ∈ lw_all := lw_g (lw_at lw_m7 75 rfl) rfl
theorem q1598 : (Jvm.Cond.lays "SeenInOrderOfAgeModel" "SeenInOrderOfAgeModel" "imaged" "Z") ∈ lw_all := lw_g (lw_at lw_m7 76 rfl) rfl
theorem q1599 : (Jvm.Cond.soleField "SeenInOrderOfAgeModel" "imaged") ∈ lw_all := lw_g (lw_at lw_m7 77 rfl) rfl
theorem q1600 : (Jvm.Cond.laysFinal "SeenInOrderOfAgeModel" "SeenInOrderOfAgeModel" "old" "[I") ∈ lw_all := lw_g (lw_at lw_m7 78 rfl) rfl
theorem q1601 : (Jvm.Cond.soleField "SeenInOrderOfAgeModel" "old") ∈ lw_all := lw_g (lw_at lw_m7 79 rfl) rfl
theorem q1602 : (Jvm.Cond.laysFinal "SeenInOrderOfAgeModel" "SeenInOrderOfAgeModel" "ahead" "[I") ∈ lw_all := lw_g (lw_at lw_m7 80 rfl) rfl
theorem q1603 : (Jvm.Cond.soleField "SeenInOrderOfAgeModel" "ahead") ∈ lw_all := lw_g (lw_at lw_m7 81 rfl) rfl
theorem q1604 : (Jvm.Cond.laysFinal "SeenInOrderOfAgeModel" "SeenInOrderOfAgeModel" "there" "[I") ∈ lw_all := lw_g (lw_at lw_m7 82 rfl) rfl
theorem q1605 : (Jvm.Cond.soleField "SeenInOrderOfAgeModel" "there") ∈ lw_all := lw_g (lw_at lw_m7 83 rfl) rfl
theorem q1606 : (Jvm.Cond.lays "SeenInOrderOfAgeModel" "SeenInOrderOfAgeModel" "looks" "I") ∈ lw_all := lw_g (lw_at lw_m7 84 rfl) rfl
theorem q1607 : (Jvm.Cond.soleField "SeenInOrderOfAgeModel" "looks") ∈ lw_all := lw_g (lw_at lw_m7 85 rfl) rfl
theorem q1608 : (Jvm.Cond.laysFinal "SeenInOrderOfAgeModel" "SeenInOrderOfAgeModel" "order" "[I") ∈ lw_all := lw_g (lw_at lw_m7 86 rfl) rfl
theorem q1609 : (Jvm.Cond.soleField "SeenInOrderOfAgeModel" "order") ∈ lw_all := lw_g (lw_at lw_m7 87 rfl) rfl
theorem q1610 : (Jvm.Cond.laysFinal "SeenInOrderOfAgeModel" "SeenInOrderOfAgeModel" "took" "[I") ∈ lw_all := lw_g (lw_at lw_m7 88 rfl) rfl
theorem q1611 : (Jvm.Cond.soleField "SeenInOrderOfAgeModel" "took") ∈ lw_all := lw_g (lw_at lw_m7 89 rfl) rfl
theorem q1612 : (Jvm.Cond.laysFinal "SeenInOrderOfAgeModel" "SeenInOrderOfAgeModel" "firstOf" "[I") ∈ lw_all := lw_g (lw_at lw_m7 90 rfl) rfl
theorem q1613 : (Jvm.Cond.soleField "SeenInOrderOfAgeModel" "firstOf") ∈ lw_all := lw_g (lw_at lw_m7 91 rfl) rfl
theorem q1614 : (Jvm.Cond.laysFinal "SeenInOrderOfAgeModel" "SeenInOrderOfAgeModel" "wish" "[I") ∈ lw_all := lw_g (lw_at lw_m7 92 rfl) rfl
theorem q1615 : (Jvm.Cond.soleField "SeenInOrderOfAgeModel" "wish") ∈ lw_all := lw_g (lw_at lw_m7 93 rfl) rfl
theorem q1616 : (Jvm.Cond.laysFinal "SeenInOrderOfAgeModel" "SeenInOrderOfAgeModel" "out" "[Z") ∈ lw_all := lw_g (lw_at lw_m7 94 rfl) rfl
theorem q1617 : (Jvm.Cond.soleField "SeenInOrderOfAgeModel" "out") ∈ lw_all := lw_g (lw_at lw_m7 95 rfl) rfl
theorem q1618 : (Jvm.Cond.laysFinal "SeenInOrderOfAgeModel" "SeenInOrderOfAgeModel" "gets" "[I") ∈ lw_all := lw_g (lw_at lw_m7 96 rfl) rfl
theorem q1619 : (Jvm.Cond.soleField "SeenInOrderOfAgeModel" "gets") ∈ lw_all := lw_g (lw_at lw_m7 97 rfl) rfl
theorem q1620 : (Jvm.Cond.laysFinal "SeenInOrderOfAgeModel" "SeenInOrderOfAgeModel" "more" "[I") ∈ lw_all := lw_g (lw_at lw_m7 98 rfl) rfl
theorem q1621 : (Jvm.Cond.soleField "SeenInOrderOfAgeModel" "more") ∈ lw_all := lw_g (lw_at lw_m7 99 rfl) rfl
theorem q1622 : (Jvm.Cond.superclass "SeenInOrderOfAgeModel" "java/lang/Object") ∈ lw_all := lw_g (lw_at lw_m7 100 rfl) rfl
theorem q1624 : (Jvm.Cond.instanceMethod ({ cls := "SeenInOrderOfAgeModel", name := "row", desc := "(III)I" } : Jvm.MethodName)) ∈ lw_all := lw_g (lw_at lw_m7 102 rfl) rfl
theorem q1625 : (Jvm.Cond.selects "SeenInOrderOfAgeModel" ({ cls := "SeenInOrderOfAgeModel", name := "row", desc := "(III)I" } : Jvm.MethodName) ({ cls := "SeenInOrderOfAgeModel", name := "row", desc := "(III)I" } : Jvm.MethodName)) ∈ lw_all := lw_g (lw_at lw_m7 103 rfl) rfl
theorem q1626 : (Jvm.Cond.code ({ cls := "SeenInOrderOfAgeModel", name := "row", desc := "(III)I" } : Jvm.MethodName) prog_17_method_12_code (5 : Nat) (Option.some Jvm.ClassFile.FieldType.int)) ∈ lw_all := lw_g (lw_at lw_m7 104 rfl) rfl
theorem q1627 : (Jvm.Cond.methodLink "SeenInOrderOfAgeModel" (92 : Nat) ({ cls := "SeenInOrderOfAgeModel", name := "isShelf", desc := "(I)Z" } : Jvm.MethodName)) ∈ lw_all := lw_g (lw_at lw_m7 105 rfl) rfl
theorem q1628 : (Jvm.Cond.static ({ cls := "SeenInOrderOfAgeModel", name := "isShelf", desc := "(I)Z" } : Jvm.MethodName)) ∈ lw_all := lw_g (lw_at lw_m7 106 rfl) rfl
theorem q1629 : (Jvm.Cond.code ({ cls := "SeenInOrderOfAgeModel", name := "isShelf", desc := "(I)Z" } : Jvm.MethodName) prog_17_method_10_code (1 : Nat) (Option.some Jvm.ClassFile.FieldType.boolean)) ∈ lw_all := lw_g (lw_at lw_m7 107 rfl) rfl
theorem q1630 : (Jvm.Cond.methodLink "SeenInOrderOfAgeModel" (85 : Nat) ({ cls := "SeenInOrderOfAgeModel", name := "within", desc := "(III)Z" } : Jvm.MethodName)) ∈ lw_all := lw_g (lw_at lw_m7 108 rfl) rfl
theorem q1631 : (Jvm.Cond.static ({ cls := "SeenInOrderOfAgeModel", name := "within", desc := "(III)Z" } : Jvm.MethodName)) ∈ lw_all := lw_g (lw_at lw_m7 109 rfl) rfl
theorem q1632 : (Jvm.Cond.code ({ cls := "SeenInOrderOfAgeModel", name := "within", desc := "(III)Z" } : Jvm.MethodName) prog_17_method_3_code (3 : Nat) (Option.some Jvm.ClassFile.FieldType.boolean)) ∈ lw_all := lw_g (lw_at lw_m7 110 rfl) rfl
theorem q1633 : (Jvm.Cond.methodLink "SeenInOrderOfAgeModel" (96 : Nat) ({ cls := "SeenInOrderOfAgeModel", name := "no", desc := "(I)I" } : Jvm.MethodName)) ∈ lw_all := lw_g (lw_at lw_m7 111 rfl) rfl
theorem q1634 : (Jvm.Cond.privateMethod ({ cls := "SeenInOrderOfAgeModel", name := "no", desc := "(I)I" } : Jvm.MethodName)) ∈ lw_tbl := lw_at lw_m7 112 rfl
theorem q1635 : (Jvm.Cond.instanceMethod ({ cls := "SeenInOrderOfAgeModel", name := "no", desc := "(I)I" } : Jvm.MethodName)) ∈ lw_all := lw_g (lw_at lw_m7 113 rfl) rfl
theorem q1636 : (Jvm.Cond.code ({ cls := "SeenInOrderOfAgeModel", name := "no", desc := "(I)I" } : Jvm.MethodName) prog_17_method_2_code (2 : Nat) (Option.some Jvm.ClassFile.FieldType.int)) ∈ lw_all := lw_g (lw_at lw_m7 114 rfl) rfl
theorem q1638 : (Jvm.Cond.instanceMethod ({ cls := "SeenInOrderOfAgeModel", name := "set", desc := "(IIJ)I" } : Jvm.MethodName)) ∈ lw_all := lw_g (lw_at lw_m7 116 rfl) rfl
theorem q1639 : (Jvm.Cond.selects "SeenInOrderOfAgeModel" ({ cls := "SeenInOrderOfAgeModel", name := "set", desc := "(IIJ)I" } : Jvm.MethodName) ({ cls := "SeenInOrderOfAgeModel", name := "set", desc := "(IIJ)I" } : Jvm.MethodName)) ∈ lw_all := lw_g (lw_at lw_m7 117 rfl) rfl
theorem q1640 : (Jvm.Cond.code ({ cls := "SeenInOrderOfAgeModel", name := "set", desc := "(IIJ)I" } : Jvm.MethodName) prog_17_method_15_code (5 : Nat) (Option.some Jvm.ClassFile.FieldType.int)) ∈ lw_all := lw_g (lw_at lw_m7 118 rfl) rfl
theorem q1641 : (Jvm.Cond.methodLink "SeenInOrderOfAgeModel" (100 : Nat) ({ cls := "SeenInOrderOfAgeModel", name := "isRow", desc := "(I)Z" } : Jvm.MethodName)) ∈ lw_all := lw_g (lw_at lw_m7 119 rfl) rfl
theorem q1642 : (Jvm.Cond.privateMethod ({ cls := "SeenInOrderOfAgeModel", name := "isRow", desc := "(I)Z" } : Jvm.MethodName)) ∈ lw_tbl := lw_at lw_m7 120 rfl
theorem q1643 : (Jvm.Cond.instanceMethod ({ cls := "SeenInOrderOfAgeModel", name := "isRow", desc := "(I)Z" } : Jvm.MethodName)) ∈ lw_all := lw_g (lw_at lw_m7 121 rfl) rfl
theorem q1644 : (Jvm.Cond.code ({ cls := "SeenInOrderOfAgeModel", name := "isRow", desc := "(I)Z" } : Jvm.MethodName) prog_17_method_11_code (2 : Nat) (Option.some Jvm.ClassFile.FieldType.boolean)) ∈ lw_all := lw_g (lw_at lw_m7 122 rfl) rfl
theorem q1645 : (Jvm.Cond.methodLink "SeenInOrderOfAgeModel" (103 : Nat) ({ cls := "SeenInOrderOfAgeModel", name := "noRow", desc := "(I)I" } : Jvm.MethodName)) ∈ lw_all := lw_g (lw_at lw_m7 123 rfl) rfl
theorem q1646 : (Jvm.Cond.privateMethod ({ cls := "SeenInOrderOfAgeModel", name := "noRow", desc := "(I)I" } : Jvm.MethodName)) ∈ lw_tbl := lw_at lw_m7 124 rfl
theorem q1647 : (Jvm.Cond.instanceMethod ({ cls := "SeenInOrderOfAgeModel", name := "noRow", desc := "(I)I" } : Jvm.MethodName)) ∈ lw_all := lw_g (lw_at lw_m7 125 rfl) rfl
theorem q1648 : (Jvm.Cond.code ({ cls := "SeenInOrderOfAgeModel", name := "noRow", desc := "(I)I" } : Jvm.MethodName) prog_17_method_13_code (2 : Nat) (Option.some Jvm.ClassFile.FieldType.int)) ∈ lw_all := lw_g (lw_at lw_m7 126 rfl) rfl
theorem q1649 : (Jvm.Cond.methodLink "SeenInOrderOfAgeModel" (106 : Nat) ({ cls := "SeenInOrderOfAgeModel", name := "kept", desc := "(IJ)J" } : Jvm.MethodName)) ∈ lw_all := lw_g (lw_at lw_m7 127 rfl) rfl
theorem q1650 : (Jvm.Cond.static ({ cls := "SeenInOrderOfAgeModel", name := "kept", desc := "(IJ)J" } : Jvm.MethodName)) ∈ lw_all := lw_g (lw_at lw_m7 128 rfl) rfl
theorem q1651 : (Jvm.Cond.code ({ cls := "SeenInOrderOfAgeModel", name := "kept", desc := "(IJ)J" } : Jvm.MethodName) prog_17_method_14_code (3 : Nat) (Option.some Jvm.ClassFile.FieldType.long)) ∈ lw_all := lw_g (lw_at lw_m7 129 rfl) rfl
theorem q1653 : (Jvm.Cond.instanceMethod ({ cls := "SeenInOrderOfAgeModel", name := "copy", desc := "(IIIII)I" } : Jvm.MethodName)) ∈ lw_all := lw_g (lw_at lw_m7 131 rfl) rfl
theorem q1654 : (Jvm.Cond.selects "SeenInOrderOfAgeModel" ({ cls := "SeenInOrderOfAgeModel", name := "copy", desc := "(IIIII)I" } : Jvm.MethodName) ({ cls := "SeenInOrderOfAgeModel", name := "copy", desc := "(IIIII)I" } : Jvm.MethodName)) ∈ lw_all := lw_g (lw_at lw_m7 132 rfl) rfl
theorem q1655 : (Jvm.Cond.code ({ cls := "SeenInOrderOfAgeModel", name := "copy", desc := "(IIIII)I" } : Jvm.MethodName) prog_17_method_16_code (7 : Nat) (Option.some Jvm.ClassFile.FieldType.int)) ∈ lw_all := lw_g (lw_at lw_m7 133 rfl) rfl
theorem q1657 : (Jvm.Cond.instanceMethod ({ cls := "SeenInOrderOfAgeModel", name := "element", desc := "(II)J" } : Jvm.MethodName)) ∈ lw_all := lw_g (lw_at lw_m7 135 rfl) rfl
theorem q1658 : (Jvm.Cond.selects "SeenInOrderOfAgeModel" ({ cls := "SeenInOrderOfAgeModel", name := "element", desc := "(II)J" } : Jvm.MethodName) ({ cls := "SeenInOrderOfAgeModel", name := "element", desc := "(II)J" } : Jvm.MethodName)) ∈ lw_all := lw_g (lw_at lw_m7 136 rfl) rfl
theorem q1659 : (Jvm.Cond.code ({ cls := "SeenInOrderOfAgeModel", name := "element", desc := "(II)J" } : Jvm.MethodName) prog_17_method_17_code (3 : Nat) (Option.some Jvm.ClassFile.FieldType.long)) ∈ lw_all := lw_g (lw_at lw_m7 137 rfl) rfl
theorem q1661 : (Jvm.Cond.instanceMethod ({ cls := "SeenInOrderOfAgeModel", name := "holds", desc := "(I)I" } : Jvm.MethodName)) ∈ lw_all := lw_g (lw_at lw_m7 139 rfl) rfl
theorem q1662 : (Jvm.Cond.selects "SeenInOrderOfAgeModel" ({ cls := "SeenInOrderOfAgeModel", name := "holds", desc := "(I)I" } : Jvm.MethodName) ({ cls := "SeenInOrderOfAgeModel", name := "holds", desc := "(I)I" } : Jvm.MethodName)) ∈ lw_all := lw_g (lw_at lw_m7 140 rfl) rfl
theorem q1663 : (Jvm.Cond.code ({ cls := "SeenInOrderOfAgeModel", name := "holds", desc := "(I)I" } : Jvm.MethodName) prog_17_method_18_code (2 : Nat) (Option.some Jvm.ClassFile.FieldType.int)) ∈ lw_all := lw_g (lw_at lw_m7 141 rfl) rfl
theorem q1665 : (Jvm.Cond.instanceMethod ({ cls := "SeenInOrderOfAgeModel", name := "show", desc := "(II)I" } : Jvm.MethodName)) ∈ lw_all := lw_g (lw_at lw_m7 143 rfl) rfl
theorem q1666 : (Jvm.Cond.selects "SeenInOrderOfAgeModel" ({ cls := "SeenInOrderOfAgeModel", name := "show", desc := "(II)I" } : Jvm.MethodName) ({ cls := "SeenInOrderOfAgeModel", name := "show", desc := "(II)I" } : Jvm.MethodName)) ∈ lw_all := lw_g (lw_at lw_m7 144 rfl) rfl
theorem q1667 : (Jvm.Cond.code ({ cls := "SeenInOrderOfAgeModel", name := "show", desc := "(II)I" } : Jvm.MethodName) prog_17_method_19_code (3 : Nat) (Option.some Jvm.ClassFile.FieldType.int)) ∈ lw_all := lw_g (lw_at lw_m7 145 rfl) rfl
theorem q1668 : (Jvm.Cond.methodLink "SeenInOrderOfAgeModel" (110 : Nat) ({ cls := "SeenInOrderOfAgeModel", name := "isLooker", desc := "(I)Z" } : Jvm.MethodName)) ∈ lw_all := lw_g (lw_at lw_m7 146 rfl) rfl
theorem q1669 : (Jvm.Cond.privateMethod ({ cls := "SeenInOrderOfAgeModel", name := "isLooker", desc := "(I)Z" } : Jvm.MethodName)) ∈ lw_tbl := lw_at lw_m7 147 rfl
theorem q1670 : (Jvm.Cond.instanceMethod ({ cls := "SeenInOrderOfAgeModel", name := "isLooker", desc := "(I)Z" } : Jvm.MethodName)) ∈ lw_all := lw_g (lw_at lw_m7 148 rfl) rfl
theorem q1671 : (Jvm.Cond.code ({ cls := "SeenInOrderOfAgeModel", name := "isLooker", desc := "(I)Z" } : Jvm.MethodName) prog_17_method_7_code (2 : Nat) (Option.some Jvm.ClassFile.FieldType.boolean)) ∈ lw_all := lw_g (lw_at lw_m7 149 rfl) rfl
theorem q1673 : (Jvm.Cond.instanceMethod ({ cls := "SeenInOrderOfAgeModel", name := "says", desc := "(II)I" } : Jvm.MethodName)) ∈ lw_all := lw_g (lw_at lw_m7 151 rfl) rfl
theorem q1674 : (Jvm.Cond.selects "SeenInOrderOfAgeModel" ({ cls := "SeenInOrderOfAgeModel", name := "says", desc := "(II)I" } : Jvm.MethodName) ({ cls := "SeenInOrderOfAgeModel", name := "says", desc := "(II)I" } : Jvm.MethodName)) ∈ lw_all := lw_g (lw_at lw_m7 152 rfl) rfl
theorem q1675 : (Jvm.Cond.code ({ cls := "SeenInOrderOfAgeModel", name := "says", desc := "(II)I" } : Jvm.MethodName) prog_17_method_21_code (4 : Nat) (Option.some Jvm.ClassFile.FieldType.int)) ∈ lw_all := lw_g (lw_at lw_m7 153 rfl) rfl
theorem q1676 : (Jvm.Cond.methodLink "SeenInOrderOfAgeModel" (113 : Nat) ({ cls := "SeenInOrderOfAgeModel", name := "isUnder", desc := "(II)Z" } : Jvm.MethodName)) ∈ lw_all := lw_g (lw_at lw_m7 154 rfl) rfl
theorem q1677 : (Jvm.Cond.static ({ cls := "SeenInOrderOfAgeModel", name := "isUnder", desc := "(II)Z" } : Jvm.MethodName)) ∈ lw_all := lw_g (lw_at lw_m7 155 rfl) rfl
theorem q1678 : (Jvm.Cond.code ({ cls := "SeenInOrderOfAgeModel", name := "isUnder", desc := "(II)Z" } : Jvm.MethodName) prog_17_method_20_code (2 : Nat) (Option.some Jvm.ClassFile.FieldType.boolean)) ∈ lw_all := lw_g (lw_at lw_m7 156 rfl) rfl
theorem q1679 : (Jvm.Cond.methodLink "SeenInOrderOfAgeModel" (117 : Nat) ({ cls := "SeenInOrderOfAgeModel", name := "runs", desc := "(I)V" } : Jvm.MethodName)) ∈ lw_all := lw_g (lw_at lw_m7 157 rfl) rfl
theorem q1680 : (Jvm.Cond.privateMethod ({ cls := "SeenInOrderOfAgeModel", name := "runs", desc := "(I)V" } : Jvm.MethodName)) ∈ lw_tbl := lw_at lw_m7 158 rfl
theorem q1681 : (Jvm.Cond.instanceMethod ({ cls := "SeenInOrderOfAgeModel", name := "runs", desc := "(I)V" } : Jvm.MethodName)) ∈ lw_all := lw_g (lw_at lw_m7 159 rfl) rfl
theorem q1682 : (Jvm.Cond.code ({ cls := "SeenInOrderOfAgeModel", name := "runs", desc := "(I)V" } : Jvm.MethodName) prog_17_method_48_code (3 : Nat) (Option.none : Option Jvm.ClassFile.FieldType)) ∈ lw_all := lw_g (lw_at lw_m7 160 rfl) rfl
theorem q1683 : (Jvm.Cond.methodLink "SeenInOrderOfAgeModel" (225 : Nat) ({ cls := "SeenInOrderOfAgeModel", name := "begins", desc := "(I)V" } : Jvm.MethodName)) ∈ lw_all := lw_g (lw_at lw_m7 161 rfl) rfl
theorem q1684 : (Jvm.Cond.privateMethod ({ cls := "SeenInOrderOfAgeModel", name := "begins", desc := "(I)V" } : Jvm.MethodName)) ∈ lw_tbl := lw_at lw_m7 162 rfl
theorem q1685 : (Jvm.Cond.instanceMethod ({ cls := "SeenInOrderOfAgeModel", name := "begins", desc := "(I)V" } : Jvm.MethodName)) ∈ lw_all := lw_g (lw_at lw_m7 163 rfl) rfl
theorem q1686 : (Jvm.Cond.code ({ cls := "SeenInOrderOfAgeModel", name := "begins", desc := "(I)V" } : Jvm.MethodName) prog_17_method_47_code (3 : Nat) (Option.none : Option Jvm.ClassFile.FieldType)) ∈ lw_all := lw_g (lw_at lw_m7 164 rfl) rfl
theorem q1687 : (Jvm.Cond.methodLink "SeenInOrderOfAgeModel" (222 : Nat) ({ cls := "SeenInOrderOfAgeModel", name := "orders", desc := "(I)V" } : Jvm.MethodName)) ∈ lw_all := lw_g (lw_at lw_m7 165 rfl) rfl
theorem q1688 : (Jvm.Cond.privateMethod ({ cls := "SeenInOrderOfAgeModel", name := "orders", desc := "(I)V" } : Jvm.MethodName)) ∈ lw_tbl := lw_at lw_m7 166 rfl
theorem q1689 : (Jvm.Cond.instanceMethod ({ cls := "SeenInOrderOfAgeModel", name := "orders", desc := "(I)V" } : Jvm.MethodName)) ∈ lw_all := lw_g (lw_at lw_m7 167 rfl) rfl
theorem q1690 : (Jvm.Cond.code ({ cls := "SeenInOrderOfAgeModel", name := "orders", desc := "(I)V" } : Jvm.MethodName) prog_17_method_46_code (4 : Nat) (Option.none : Option Jvm.ClassFile.FieldType)) ∈ lw_all := lw_g (lw_at lw_m7 168 rfl) rfl
theorem q1691 : (Jvm.Cond.methodLink "SeenInOrderOfAgeModel" (194 : Nat) ({ cls := "SeenInOrderOfAgeModel", name := "in", desc := "(II)Z" } : Jvm.MethodName)) ∈ lw_all := lw_g (lw_at lw_m7 169 rfl) rfl
theorem q1692 : (Jvm.Cond.static ({ cls := "SeenInOrderOfAgeModel", name := "in", desc := "(II)Z" } : Jvm.MethodName)) ∈ lw_all := lw_g (lw_at lw_m7 170 rfl) rfl
theorem q1693 : (Jvm.Cond.code ({ cls := "SeenInOrderOfAgeModel", name := "in", desc := "(II)Z" } : Jvm.MethodName) prog_17_method_4_code (2 : Nat) (Option.some Jvm.ClassFile.FieldType.boolean)) ∈ lw_all := lw_g (lw_at lw_m7 171 rfl) rfl
theorem q1694 : (Jvm.Cond.methodLink "SeenInOrderOfAgeModel" (228 : Nat) ({ cls := "SeenInOrderOfAgeModel", name := "lookerGoes", desc := "(I)V" } : Jvm.MethodName)) ∈ lw_all := lw_g (lw_at lw_m7 172 rfl) rfl
theorem q1695 : (Jvm.Cond.privateMethod ({ cls := "SeenInOrderOfAgeModel", name := "lookerGoes", desc := "(I)V" } : Jvm.MethodName)) ∈ lw_tbl := lw_at lw_m7 173 rfl
theorem q1696 : (Jvm.Cond.instanceMethod ({ cls := "SeenInOrderOfAgeModel", name := "lookerGoes", desc := "(I)V" } : Jvm.MethodName)) ∈ lw_all := lw_g (lw_at lw_m7 174 rfl) rfl
theorem q1697 : (Jvm.Cond.code ({ cls := "SeenInOrderOfAgeModel", name := "lookerGoes", desc := "(I)V" } : Jvm.MethodName) prog_17_method_45_code (3 : Nat) (Option.none : Option Jvm.ClassFile.FieldType)) ∈ lw_all := lw_g (lw_at lw_m7 175 rfl) rfl
theorem q1698 : (Jvm.Cond.methodLink "SeenInOrderOfAgeModel" (206 : Nat) ({ cls := "SeenInOrderOfAgeModel", name := "lastLiked", desc := "(I)I" } : Jvm.MethodName)) ∈ lw_all := lw_g (lw_at lw_m7 176 rfl) rfl
theorem q1699 : (Jvm.Cond.privateMethod ({ cls := "SeenInOrderOfAgeModel", name := "lastLiked", desc := "(I)I" } : Jvm.MethodName)) ∈ lw_tbl := lw_at lw_m7 177 rfl
theorem q1700 : (Jvm.Cond.instanceMethod ({ cls := "SeenInOrderOfAgeModel", name := "lastLiked", desc := "(I)I" } : Jvm.MethodName)) ∈ lw_all := lw_g (lw_at lw_m7 178 rfl) rfl
theorem q1701 : (Jvm.Cond.code ({ cls := "SeenInOrderOfAgeModel", name := "lastLiked", desc := "(I)I" } : Jvm.MethodName) prog_17_method_43_code (4 : Nat) (Option.some Jvm.ClassFile.FieldType.int)) ∈ lw_all := lw_g (lw_at lw_m7 179 rfl) rfl
theorem q1702 : (Jvm.Cond.methodLink "SeenInOrderOfAgeModel" (200 : Nat) ({ cls := "SeenInOrderOfAgeModel", name := "doesLike", desc := "(II)Z" } : Jvm.MethodName)) ∈ lw_all := lw_g (lw_at lw_m7 180 rfl) rfl
theorem q1703 : (Jvm.Cond.privateMethod ({ cls := "SeenInOrderOfAgeModel", name := "doesLike", desc := "(II)Z" } : Jvm.MethodName)) ∈ lw_tbl := lw_at lw_m7 181 rfl
theorem q1704 : (Jvm.Cond.instanceMethod ({ cls := "SeenInOrderOfAgeModel", name := "doesLike", desc := "(II)Z" } : Jvm.MethodName)) ∈ lw_all := lw_g (lw_at lw_m7 182 rfl) rfl
theorem q1705 : (Jvm.Cond.code ({ cls := "SeenInOrderOfAgeModel", name := "doesLike", desc := "(II)Z" } : Jvm.MethodName) prog_17_method_38_code (3 : Nat) (Option.some Jvm.ClassFile.FieldType.boolean)) ∈ lw_all := lw_g (lw_at lw_m7 183 rfl) rfl
theorem q1706 : (Jvm.Cond.methodLink "SeenInOrderOfAgeModel" (209 : Nat) ({ cls := "SeenInOrderOfAgeModel", name := "takes", desc := "(II)V" } : Jvm.MethodName)) ∈ lw_all := lw_g (lw_at lw_m7 184 rfl) rfl
theorem q1707 : (Jvm.Cond.privateMethod ({ cls := "SeenInOrderOfAgeModel", name := "takes", desc := "(II)V" } : Jvm.MethodName)) ∈ lw_tbl := lw_at lw_m7 185 rfl
theorem q1708 : (Jvm.Cond.instanceMethod ({ cls := "SeenInOrderOfAgeModel", name := "takes", desc := "(II)V" } : Jvm.MethodName)) ∈ lw_all := lw_g (lw_at lw_m7 186 rfl) rfl
theorem q1709 : (Jvm.Cond.code ({ cls := "SeenInOrderOfAgeModel", name := "takes", desc := "(II)V" } : Jvm.MethodName) prog_17_method_41_code (3 : Nat) (Option.none : Option Jvm.ClassFile.FieldType)) ∈ lw_all := lw_g (lw_at lw_m7 187 rfl) rfl
theorem q1710 : (Jvm.Cond.methodLink "SeenInOrderOfAgeModel" (197 : Nat) ({ cls := "SeenInOrderOfAgeModel", name := "firstWith", desc := "(I)I" } : Jvm.MethodName)) ∈ lw_all := lw_g (lw_at lw_m7 188 rfl) rfl
theorem q1711 : (Jvm.Cond.privateMethod ({ cls := "SeenInOrderOfAgeModel", name := "firstWith", desc := "(I)I" } : Jvm.MethodName)) ∈ lw_tbl := lw_at lw_m7 189 rfl
theorem q1712 : (Jvm.Cond.instanceMethod ({ cls := "SeenInOrderOfAgeModel", name := "firstWith", desc := "(I)I" } : Jvm.MethodName)) ∈ lw_all := lw_g (lw_at lw_m7 190 rfl) rfl
theorem q1713 : (Jvm.Cond.code ({ cls := "SeenInOrderOfAgeModel", name := "firstWith", desc := "(I)I" } : Jvm.MethodName) prog_17_method_40_code (3 : Nat) (Option.some Jvm.ClassFile.FieldType.int)) ∈ lw_all := lw_g (lw_at lw_m7 191 rfl) rfl
theorem q1714 : (Jvm.Cond.methodLink "SeenInOrderOfAgeModel" (213 : Nat) ({ cls := "SeenInOrderOfAgeModel", name := "look", desc := "(I)I" } : Jvm.MethodName)) ∈ lw_all := lw_g (lw_at lw_m7 192 rfl) rfl
theorem q1715 : (Jvm.Cond.privateMethod ({ cls := "SeenInOrderOfAgeModel", name := "look", desc := "(I)I" } : Jvm.MethodName)) ∈ lw_tbl := lw_at lw_m7 193 rfl
theorem q1716 : (Jvm.Cond.instanceMethod ({ cls := "SeenInOrderOfAgeModel", name := "look", desc := "(I)I" } : Jvm.MethodName)) ∈ lw_all := lw_g (lw_at lw_m7 194 rfl) rfl
theorem q1717 : (Jvm.Cond.code ({ cls := "SeenInOrderOfAgeModel", name := "look", desc := "(I)I" } : Jvm.MethodName) prog_17_method_42_code (4 : Nat) (Option.some Jvm.ClassFile.FieldType.int)) ∈ lw_all := lw_g (lw_at lw_m7 195 rfl) rfl
theorem q1718 : (Jvm.Cond.methodLink "SeenInOrderOfAgeModel" (203 : Nat) ({ cls := "SeenInOrderOfAgeModel", name := "manyOf", desc := "(I)I" } : Jvm.MethodName)) ∈ lw_all := lw_g (lw_at lw_m7 196 rfl) rfl
theorem q1719 : (Jvm.Cond.privateMethod ({ cls := "SeenInOrderOfAgeModel", name := "manyOf", desc := "(I)I" } : Jvm.MethodName)) ∈ lw_tbl := lw_at lw_m7 197 rfl
theorem q1720 : (Jvm.Cond.instanceMethod ({ cls := "SeenInOrderOfAgeModel", name := "manyOf", desc := "(I)I" } : Jvm.MethodName)) ∈ lw_all := lw_g (lw_at lw_m7 198 rfl) rfl
theorem q1721 : (Jvm.Cond.code ({ cls := "SeenInOrderOfAgeModel", name := "manyOf", desc := "(I)I" } : Jvm.MethodName) prog_17_method_39_code (4 : Nat) (Option.some Jvm.ClassFile.FieldType.int)) ∈ lw_all := lw_g (lw_at lw_m7 199 rfl) rfl
theorem q1722 : (Jvm.Cond.methodLink "SeenInOrderOfAgeModel" (216 : Nat) ({ cls := "SeenInOrderOfAgeModel", name := "shyest", desc := "(I)I" } : Jvm.MethodName)) ∈ lw_all := lw_g (lw_at lw_m7 200 rfl) rfl
theorem q1723 : (Jvm.Cond.privateMethod ({ cls := "SeenInOrderOfAgeModel", name := "shyest", desc := "(I)I" } : Jvm.MethodName)) ∈ lw_tbl := lw_at lw_m7 201 rfl
theorem q1724 : (Jvm.Cond.instanceMethod ({ cls := "SeenInOrderOfAgeModel", name := "shyest", desc := "(I)I" } : Jvm.MethodName)) ∈ lw_all := lw_g (lw_at lw_m7 202 rfl) rfl
theorem q1725 : (Jvm.Cond.code ({ cls := "SeenInOrderOfAgeModel", name := "shyest", desc := "(I)I" } : Jvm.MethodName) prog_17_method_44_code (5 : Nat) (Option.some Jvm.ClassFile.FieldType.int)) ∈ lw_all := lw_g (lw_at lw_m7 203 rfl) rfl
theorem q1727 : (Jvm.Cond.instanceMethod ({ cls := "SeenInOrderOfAgeModel", name := "place", desc := "(II)I" } : Jvm.MethodName)) ∈ lw_all := lw_g (lw_at lw_m7 205 rfl) rfl
theorem q1728 : (Jvm.Cond.selects "SeenInOrderOfAgeModel" ({ cls := "SeenInOrderOfAgeModel", name := "place", desc := "(II)I" } : Jvm.MethodName) ({ cls := "SeenInOrderOfAgeModel", name := "place", desc := "(II)I" } : Jvm.MethodName)) ∈ lw_all := lw_g (lw_at lw_m7 206 rfl) rfl
theorem q1729 : (Jvm.Cond.code ({ cls := "SeenInOrderOfAgeModel", name := "place", desc := "(II)I" } : Jvm.MethodName) prog_17_method_22_code (4 : Nat) (Option.some Jvm.ClassFile.FieldType.int)) ∈ lw_all := lw_g (lw_at lw_m7 207 rfl) rfl
theorem q1730 : (Jvm.Cond.methodLink "SeenInOrderOfAgeModel" (121 : Nat) ({ cls := "SeenInOrderOfAgeModel", name := "isPlace", desc := "(I)Z" } : Jvm.MethodName)) ∈ lw_all := lw_g (lw_at lw_m7 208 rfl) rfl
theorem q1731 : (Jvm.Cond.static ({ cls := "SeenInOrderOfAgeModel", name := "isPlace", desc := "(I)Z" } : Jvm.MethodName)) ∈ lw_all := lw_g (lw_at lw_m7 209 rfl) rfl
theorem q1732 : (Jvm.Cond.code ({ cls := "SeenInOrderOfAgeModel", name := "isPlace", desc := "(I)Z" } : Jvm.MethodName) prog_17_method_5_code (1 : Nat) (Option.some Jvm.ClassFile.FieldType.boolean)) ∈ lw_all := lw_g (lw_at lw_m7 210 rfl) rfl
theorem q1734 : (Jvm.Cond.instanceMethod ({ cls := "SeenInOrderOfAgeModel", name := "looker", desc := "(III)I" } : Jvm.MethodName)) ∈ lw_all := lw_g (lw_at lw_m7 212 rfl) rfl
theorem q1735 : (Jvm.Cond.selects "SeenInOrderOfAgeModel" ({ cls := "SeenInOrderOfAgeModel", name := "looker", desc := "(III)I" } : Jvm.MethodName) ({ cls := "SeenInOrderOfAgeModel", name := "looker", desc := "(III)I" } : Jvm.MethodName)) ∈ lw_all := lw_g (lw_at lw_m7 213 rfl) rfl
theorem q1736 : (Jvm.Cond.code ({ cls := "SeenInOrderOfAgeModel", name := "looker", desc := "(III)I" } : Jvm.MethodName) prog_17_method_24_code (4 : Nat) (Option.some Jvm.ClassFile.FieldType.int)) ∈ lw_all := lw_g (lw_at lw_m7 214 rfl) rfl
theorem q1737 : (Jvm.Cond.methodLink "SeenInOrderOfAgeModel" (124 : Nat) ({ cls := "SeenInOrderOfAgeModel", name := "isSort", desc := "(I)Z" } : Jvm.MethodName)) ∈ lw_all := lw_g (lw_at lw_m7 215 rfl) rfl
theorem q1738 : (Jvm.Cond.static ({ cls := "SeenInOrderOfAgeModel", name := "isSort", desc := "(I)Z" } : Jvm.MethodName)) ∈ lw_all := lw_g (lw_at lw_m7 216 rfl) rfl
theorem q1739 : (Jvm.Cond.code ({ cls := "SeenInOrderOfAgeModel", name := "isSort", desc := "(I)Z" } : Jvm.MethodName) prog_17_method_6_code (1 : Nat) (Option.some Jvm.ClassFile.FieldType.boolean)) ∈ lw_all := lw_g (lw_at lw_m7 217 rfl) rfl
theorem q1740 : (Jvm.Cond.methodLink "SeenInOrderOfAgeModel" (127 : Nat) ({ cls := "SeenInOrderOfAgeModel", name := "newLooker", desc := "(III)I" } : Jvm.MethodName)) ∈ lw_all := lw_g (lw_at lw_m7 218 rfl) rfl
theorem q1741 : (Jvm.Cond.privateMethod ({ cls := "SeenInOrderOfAgeModel", name := "newLooker", desc := "(III)I" } : Jvm.MethodName)) ∈ lw_tbl := lw_at lw_m7 219 rfl
theorem q1742 : (Jvm.Cond.instanceMethod ({ cls := "SeenInOrderOfAgeModel", name := "newLooker", desc := "(III)I" } : Jvm.MethodName)) ∈ lw_all := lw_g (lw_at lw_m7 220 rfl) rfl
theorem q1743 : (Jvm.Cond.code ({ cls := "SeenInOrderOfAgeModel", name := "newLooker", desc := "(III)I" } : Jvm.MethodName) prog_17_method_23_code (5 : Nat) (Option.some Jvm.ClassFile.FieldType.int)) ∈ lw_all := lw_g (lw_at lw_m7 221 rfl) rfl
theorem q1745 : (Jvm.Cond.instanceMethod ({ cls := "SeenInOrderOfAgeModel", name := "likes", desc := "(IIZ)I" } : Jvm.MethodName)) ∈ lw_all := lw_g (lw_at lw_m7 223 rfl) rfl
theorem q1746 : (Jvm.Cond.selects "SeenInOrderOfAgeModel" ({ cls := "SeenInOrderOfAgeModel", name := "likes", desc := "(IIZ)I" } : Jvm.MethodName) ({ cls := "SeenInOrderOfAgeModel", name := "likes", desc := "(IIZ)I" } : Jvm.MethodName)) ∈ lw_all := lw_g (lw_at lw_m7 224 rfl) rfl
theorem q1747 : (Jvm.Cond.code ({ cls := "SeenInOrderOfAgeModel", name := "likes", desc := "(IIZ)I" } : Jvm.MethodName) prog_17_method_25_code (5 : Nat) (Option.some Jvm.ClassFile.FieldType.int)) ∈ lw_all := lw_g (lw_at lw_m7 225 rfl) rfl
theorem q1749 : (Jvm.Cond.instanceMethod ({ cls := "SeenInOrderOfAgeModel", name := "tell", desc := "(III)I" } : Jvm.MethodName)) ∈ lw_all := lw_g (lw_at lw_m7 227 rfl) rfl
theorem q1750 : (Jvm.Cond.selects "SeenInOrderOfAgeModel" ({ cls := "SeenInOrderOfAgeModel", name := "tell", desc := "(III)I" } : Jvm.MethodName) ({ cls := "SeenInOrderOfAgeModel", name := "tell", desc := "(III)I" } : Jvm.MethodName)) ∈ lw_all := lw_g (lw_at lw_m7 228 rfl) rfl
theorem q1751 : (Jvm.Cond.code ({ cls := "SeenInOrderOfAgeModel", name := "tell", desc := "(III)I" } : Jvm.MethodName) prog_17_method_26_code (5 : Nat) (Option.some Jvm.ClassFile.FieldType.int)) ∈ lw_all := lw_g (lw_at lw_m7 229 rfl) rfl
theorem q1753 : (Jvm.Cond.instanceMethod ({ cls := "SeenInOrderOfAgeModel", name := "feed", desc := "(I)I" } : Jvm.MethodName)) ∈ lw_all := lw_g (lw_at lw_m7 231 rfl) rfl
theorem q1754 : (Jvm.Cond.selects "SeenInOrderOfAgeModel" ({ cls := "SeenInOrderOfAgeModel", name := "feed", desc := "(I)I" } : Jvm.MethodName) ({ cls := "SeenInOrderOfAgeModel", name := "feed", desc := "(I)I" } : Jvm.MethodName)) ∈ lw_all := lw_g (lw_at lw_m7 232 rfl) rfl
theorem q1755 : (Jvm.Cond.code ({ cls := "SeenInOrderOfAgeModel", name := "feed", desc := "(I)I" } : Jvm.MethodName) prog_17_method_27_code (2 : Nat) (Option.some Jvm.ClassFile.FieldType.int)) ∈ lw_all := lw_g (lw_at lw_m7 233 rfl) rfl
theorem q1757 : (Jvm.Cond.instanceMethod ({ cls := "SeenInOrderOfAgeModel", name := "wipe", desc := "()I" } : Jvm.MethodName)) ∈ lw_all := lw_g (lw_at lw_m7 235 rfl) rfl
theorem q1758 : (Jvm.Cond.selects "SeenInOrderOfAgeModel" ({ cls := "SeenInOrderOfAgeModel", name := "wipe", desc := "()I" } : Jvm.MethodName) ({ cls := "SeenInOrderOfAgeModel", name := "wipe", desc := "()I" } : Jvm.MethodName)) ∈ lw_all := lw_g (lw_at lw_m7 236 rfl) rfl
theorem q1759 : (Jvm.Cond.code ({ cls := "SeenInOrderOfAgeModel", name := "wipe", desc := "()I" } : Jvm.MethodName) prog_17_method_28_code (2 : Nat) (Option.some Jvm.ClassFile.FieldType.int)) ∈ lw_all := lw_g (lw_at lw_m7 237 rfl) rfl
theorem q1761 : (Jvm.Cond.instanceMethod ({ cls := "SeenInOrderOfAgeModel", name := "window", desc := "()I" } : Jvm.MethodName)) ∈ lw_all := lw_g (lw_at lw_m7 239 rfl) rfl
theorem q1762 : (Jvm.Cond.selects "SeenInOrderOfAgeModel" ({ cls := "SeenInOrderOfAgeModel", name := "window", desc := "()I" } : Jvm.MethodName) ({ cls := "SeenInOrderOfAgeModel", name := "window", desc := "()I" } : Jvm.MethodName)) ∈ lw_all := lw_g (lw_at lw_m8 0 rfl) rfl
theorem q1763 : (Jvm.Cond.code ({ cls := "SeenInOrderOfAgeModel", name := "window", desc := "()I" } : Jvm.MethodName) prog_17_method_35_code (3 : Nat) (Option.some Jvm.ClassFile.FieldType.int)) ∈ lw_all := lw_g (lw_at lw_m8 1 rfl) rfl
theorem q1764 : (Jvm.Cond.methodLink "SeenInOrderOfAgeModel" (183 : Nat) ({ cls := "SeenInOrderOfAgeModel", name := "keep", desc := "([I)V" } : Jvm.MethodName)) ∈ lw_all := lw_g (lw_at lw_m8 2 rfl) rfl
theorem q1765 : (Jvm.Cond.privateMethod ({ cls := "SeenInOrderOfAgeModel", name := "keep", desc := "([I)V" } : Jvm.MethodName)) ∈ lw_tbl := lw_at lw_m8 3 rfl
theorem q1766 : (Jvm.Cond.instanceMethod ({ cls := "SeenInOrderOfAgeModel", name := "keep", desc := "([I)V" } : Jvm.MethodName)) ∈ lw_all := lw_g (lw_at lw_m8 4 rfl) rfl
theorem q1767 : (Jvm.Cond.code ({ cls := "SeenInOrderOfAgeModel", name := "keep", desc := "([I)V" } : Jvm.MethodName) prog_17_method_99_code (3 : Nat) (Option.none : Option Jvm.ClassFile.FieldType)) ∈ lw_all := lw_g (lw_at lw_m8 5 rfl) rfl
theorem q1768 : (Jvm.Cond.methodLink "SeenInOrderOfAgeModel" (162 : Nat) ({ cls := "SeenInOrderOfAgeModel", name := "next", desc := "()V" } : Jvm.MethodName)) ∈ lw_all := lw_g (lw_at lw_m8 6 rfl) rfl
theorem q1769 : (Jvm.Cond.privateMethod ({ cls := "SeenInOrderOfAgeModel", name := "next", desc := "()V" } : Jvm.MethodName)) ∈ lw_tbl := lw_at lw_m8 7 rfl
theorem q1770 : (Jvm.Cond.instanceMethod ({ cls := "SeenInOrderOfAgeModel", name := "next", desc := "()V" } : Jvm.MethodName)) ∈ lw_all := lw_g (lw_at lw_m8 8 rfl) rfl
theorem q1771 : (Jvm.Cond.code ({ cls := "SeenInOrderOfAgeModel", name := "next", desc := "()V" } : Jvm.MethodName) prog_17_method_31_code (2 : Nat) (Option.none : Option Jvm.ClassFile.FieldType)) ∈ lw_all := lw_g (lw_at lw_m8 9 rfl) rfl
theorem q1772 : (Jvm.Cond.methodLink "SeenInOrderOfAgeModel" (143 : Nat) ({ cls := "SeenInOrderOfAgeModel", name := "isLetter", desc := "(I)Z" } : Jvm.MethodName)) ∈ lw_all := lw_g (lw_at lw_m8 10 rfl) rfl
theorem q1773 : (Jvm.Cond.static ({ cls := "SeenInOrderOfAgeModel", name := "isLetter", desc := "(I)Z" } : Jvm.MethodName)) ∈ lw_all := lw_g (lw_at lw_m8 11 rfl) rfl
theorem q1774 : (Jvm.Cond.code ({ cls := "SeenInOrderOfAgeModel", name := "isLetter", desc := "(I)Z" } : Jvm.MethodName) prog_17_method_29_code (1 : Nat) (Option.some Jvm.ClassFile.FieldType.boolean)) ∈ lw_all := lw_g (lw_at lw_m8 12 rfl) rfl
theorem q1775 : (Jvm.Cond.methodLink "SeenInOrderOfAgeModel" (146 : Nat) ({ cls := "SeenInOrderOfAgeModel", name := "isDigit", desc := "(I)Z" } : Jvm.MethodName)) ∈ lw_all := lw_g (lw_at lw_m8 13 rfl) rfl
theorem q1776 : (Jvm.Cond.static ({ cls := "SeenInOrderOfAgeModel", name := "isDigit", desc := "(I)Z" } : Jvm.MethodName)) ∈ lw_all := lw_g (lw_at lw_m8 14 rfl) rfl
theorem q1777 : (Jvm.Cond.code ({ cls := "SeenInOrderOfAgeModel", name := "isDigit", desc := "(I)Z" } : Jvm.MethodName) prog_17_method_30_code (1 : Nat) (Option.some Jvm.ClassFile.FieldType.boolean)) ∈ lw_all := lw_g (lw_at lw_m8 15 rfl) rfl
theorem q1778 : (Jvm.Cond.methodLink "SeenInOrderOfAgeModel" (187 : Nat) ({ cls := "SeenInOrderOfAgeModel", name := "statement", desc := "()Z" } : Jvm.MethodName)) ∈ lw_all := lw_g (lw_at lw_m8 16 rfl) rfl
theorem q1779 : (Jvm.Cond.privateMethod ({ cls := "SeenInOrderOfAgeModel", name := "statement", desc := "()Z" } : Jvm.MethodName)) ∈ lw_tbl := lw_at lw_m8 17 rfl
theorem q1780 : (Jvm.Cond.instanceMethod ({ cls := "SeenInOrderOfAgeModel", name := "statement", desc := "()Z" } : Jvm.MethodName)) ∈ lw_all := lw_g (lw_at lw_m8 18 rfl) rfl
theorem q1781 : (Jvm.Cond.code ({ cls := "SeenInOrderOfAgeModel", name := "statement", desc := "()Z" } : Jvm.MethodName) prog_17_method_34_code (4 : Nat) (Option.some Jvm.ClassFile.FieldType.boolean)) ∈ lw_all := lw_g (lw_at lw_m8 19 rfl) rfl
theorem q1782 : (Jvm.Cond.stringRef "SeenInOrderOfAgeModel" (165 : Nat) "place") ∈ lw_tbl := lw_at lw_m8 20 rfl
theorem q1783 : (Jvm.Cond.methodLink "SeenInOrderOfAgeModel" (167 : Nat) ({ cls := "SeenInOrderOfAgeModel", name := "isWord", desc := "(Ljava/lang/String;)Z" } : Jvm.MethodName)) ∈ lw_all := lw_g (lw_at lw_m8 21 rfl) rfl
theorem q1784 : (Jvm.Cond.privateMethod ({ cls := "SeenInOrderOfAgeModel", name := "isWord", desc := "(Ljava/lang/String;)Z" } : Jvm.MethodName)) ∈ lw_tbl := lw_at lw_m8 22 rfl
theorem q1785 : (Jvm.Cond.instanceMethod ({ cls := "SeenInOrderOfAgeModel", name := "isWord", desc := "(Ljava/lang/String;)Z" } : Jvm.MethodName)) ∈ lw_all := lw_g (lw_at lw_m8 23 rfl) rfl
theorem q1786 : (Jvm.Cond.code ({ cls := "SeenInOrderOfAgeModel", name := "isWord", desc := "(Ljava/lang/String;)Z" } : Jvm.MethodName) prog_17_method_32_code (3 : Nat) (Option.some Jvm.ClassFile.FieldType.boolean)) ∈ lw_all := lw_g (lw_at lw_m8 24 rfl) rfl
theorem q1787 : (Jvm.Cond.methodLink "SeenInOrderOfAgeModel" (152 : Nat) ({ cls := "java/lang/String", name := "length", desc := "()I" } : Jvm.MethodName)) ∈ lw_all := lw_g (lw_at lw_m8 25 rfl) rfl
theorem q1788 : (Jvm.Cond.methodLink "SeenInOrderOfAgeModel" (158 : Nat) ({ cls := "java/lang/String", name := "charAt", desc := "(I)C" } : Jvm.MethodName)) ∈ lw_all := lw_g (lw_at lw_m8 26 rfl) rfl
theorem q1799 : (Jvm.Cond.methodLink "SeenInOrderOfAgeModel" (171 : Nat) ({ cls := "SeenInOrderOfAgeModel", name := "number", desc := "(II)I" } : Jvm.MethodName)) ∈ lw_all := lw_g (lw_at lw_m8 37 rfl) rfl
theorem q1800 : (Jvm.Cond.privateMethod ({ cls := "SeenInOrderOfAgeModel", name := "number", desc := "(II)I" } : Jvm.MethodName)) ∈ lw_tbl := lw_at lw_m8 38 rfl
theorem q1801 : (Jvm.Cond.instanceMethod ({ cls := "SeenInOrderOfAgeModel", name := "number", desc := "(II)I" } : Jvm.MethodName)) ∈ lw_all := lw_g (lw_at lw_m8 39 rfl) rfl
theorem q1802 : (Jvm.Cond.code ({ cls := "SeenInOrderOfAgeModel", name := "number", desc := "(II)I" } : Jvm.MethodName) prog_17_method_33_code (3 : Nat) (Option.some Jvm.ClassFile.FieldType.int)) ∈ lw_all := lw_g (lw_at lw_m8 40 rfl) rfl
theorem q1803 : (Jvm.Cond.stringRef "SeenInOrderOfAgeModel" (175 : Nat) "clear") ∈ lw_tbl := lw_at lw_m8 41 rfl
theorem q1804 : (Jvm.Cond.stringRef "SeenInOrderOfAgeModel" (177 : Nat) "looker") ∈ lw_tbl := lw_at lw_m8 42 rfl
theorem q1805 : (Jvm.Cond.stringRef "SeenInOrderOfAgeModel" (179 : Nat) "likes") ∈ lw_tbl := lw_at lw_m8 43 rfl
theorem q1806 : (Jvm.Cond.stringRef "SeenInOrderOfAgeModel" (181 : Nat) "comes") ∈ lw_tbl := lw_at lw_m8 44 rfl
theorem q1807 : (Jvm.Cond.stringRef "SeenInOrderOfAgeModel" (182 : Nat) "shine") ∈ lw_tbl := lw_at lw_m8 45 rfl
theorem q1808 : (Jvm.Cond.methodLink "SeenInOrderOfAgeModel" (191 : Nat) ({ cls := "SeenInOrderOfAgeModel", name := "again", desc := "([I)V" } : Jvm.MethodName)) ∈ lw_all := lw_g (lw_at lw_m8 46 rfl) rfl
theorem q1809 : (Jvm.Cond.privateMethod ({ cls := "SeenInOrderOfAgeModel", name := "again", desc := "([I)V" } : Jvm.MethodName)) ∈ lw_tbl := lw_at lw_m8 47 rfl
theorem q1810 : (Jvm.Cond.instanceMethod ({ cls := "SeenInOrderOfAgeModel", name := "again", desc := "([I)V" } : Jvm.MethodName)) ∈ lw_all := lw_g (lw_at lw_m8 48 rfl) rfl
theorem q1811 : (Jvm.Cond.code ({ cls := "SeenInOrderOfAgeModel", name := "again", desc := "([I)V" } : Jvm.MethodName) prog_17_method_100_code (3 : Nat) (Option.none : Option Jvm.ClassFile.FieldType)) ∈ lw_all := lw_g (lw_at lw_m8 49 rfl) rfl
theorem q1813 : (Jvm.Cond.instanceMethod ({ cls := "SeenInOrderOfAgeModel", name := "sortAt", desc := "(I)I" } : Jvm.MethodName)) ∈ lw_all := lw_g (lw_at lw_m8 51 rfl) rfl
theorem q1814 : (Jvm.Cond.selects "SeenInOrderOfAgeModel" ({ cls := "SeenInOrderOfAgeModel", name := "sortAt", desc := "(I)I" } : Jvm.MethodName) ({ cls := "SeenInOrderOfAgeModel", name := "sortAt", desc := "(I)I" } : Jvm.MethodName)) ∈ lw_all := lw_g (lw_at lw_m8 52 rfl) rfl
theorem q1815 : (Jvm.Cond.code ({ cls := "SeenInOrderOfAgeModel", name := "sortAt", desc := "(I)I" } : Jvm.MethodName) prog_17_method_36_code (2 : Nat) (Option.some Jvm.ClassFile.FieldType.int)) ∈ lw_all := lw_g (lw_at lw_m8 53 rfl) rfl
theorem q1817 : (Jvm.Cond.instanceMethod ({ cls := "SeenInOrderOfAgeModel", name := "lookerOf", desc := "(II)I" } : Jvm.MethodName)) ∈ lw_all := lw_g (lw_at lw_m8 55 rfl) rfl
theorem q1818 : (Jvm.Cond.selects "SeenInOrderOfAgeModel" ({ cls := "SeenInOrderOfAgeModel", name := "lookerOf", desc := "(II)I" } : Jvm.MethodName) ({ cls := "SeenInOrderOfAgeModel", name := "lookerOf", desc := "(II)I" } : Jvm.MethodName)) ∈ lw_all := lw_g (lw_at lw_m8 56 rfl) rfl
theorem q1819 : (Jvm.Cond.code ({ cls := "SeenInOrderOfAgeModel", name := "lookerOf", desc := "(II)I" } : Jvm.MethodName) prog_17_method_37_code (3 : Nat) (Option.some Jvm.ClassFile.FieldType.int)) ∈ lw_all := lw_g (lw_at lw_m8 57 rfl) rfl
theorem q1821 : (Jvm.Cond.instanceMethod ({ cls := "SeenInOrderOfAgeModel", name := "left", desc := "(I)I" } : Jvm.MethodName)) ∈ lw_all := lw_g (lw_at lw_m8 59 rfl) rfl
theorem q1822 : (Jvm.Cond.selects "SeenInOrderOfAgeModel" ({ cls := "SeenInOrderOfAgeModel", name := "left", desc := "(I)I" } : Jvm.MethodName) ({ cls := "SeenInOrderOfAgeModel", name := "left", desc := "(I)I" } : Jvm.MethodName)) ∈ lw_all := lw_g (lw_at lw_m8 60 rfl) rfl
theorem q1823 : (Jvm.Cond.code ({ cls := "SeenInOrderOfAgeModel", name := "left", desc := "(I)I" } : Jvm.MethodName) prog_17_method_52_code (2 : Nat) (Option.some Jvm.ClassFile.FieldType.int)) ∈ lw_all := lw_g (lw_at lw_m8 61 rfl) rfl
theorem q1824 : (Jvm.Cond.methodLink "SeenInOrderOfAgeModel" (234 : Nat) ({ cls := "SeenInOrderOfAgeModel", name := "isSet", desc := "(I)Z" } : Jvm.MethodName)) ∈ lw_all := lw_g (lw_at lw_m8 62 rfl) rfl
theorem q1825 : (Jvm.Cond.privateMethod ({ cls := "SeenInOrderOfAgeModel", name := "isSet", desc := "(I)Z" } : Jvm.MethodName)) ∈ lw_tbl := lw_at lw_m8 63 rfl
theorem q1826 : (Jvm.Cond.instanceMethod ({ cls := "SeenInOrderOfAgeModel", name := "isSet", desc := "(I)Z" } : Jvm.MethodName)) ∈ lw_all := lw_g (lw_at lw_m8 64 rfl) rfl
theorem q1827 : (Jvm.Cond.code ({ cls := "SeenInOrderOfAgeModel", name := "isSet", desc := "(I)Z" } : Jvm.MethodName) prog_17_method_8_code (2 : Nat) (Option.some Jvm.ClassFile.FieldType.boolean)) ∈ lw_all := lw_g (lw_at lw_m8 65 rfl) rfl
theorem q1828 : (Jvm.Cond.methodLink "SeenInOrderOfAgeModel" (237 : Nat) ({ cls := "SeenInOrderOfAgeModel", name := "leftThen", desc := "()I" } : Jvm.MethodName)) ∈ lw_all := lw_g (lw_at lw_m8 66 rfl) rfl
theorem q1829 : (Jvm.Cond.privateMethod ({ cls := "SeenInOrderOfAgeModel", name := "leftThen", desc := "()I" } : Jvm.MethodName)) ∈ lw_tbl := lw_at lw_m8 67 rfl
theorem q1830 : (Jvm.Cond.instanceMethod ({ cls := "SeenInOrderOfAgeModel", name := "leftThen", desc := "()I" } : Jvm.MethodName)) ∈ lw_all := lw_g (lw_at lw_m8 68 rfl) rfl
theorem q1831 : (Jvm.Cond.code ({ cls := "SeenInOrderOfAgeModel", name := "leftThen", desc := "()I" } : Jvm.MethodName) prog_17_method_49_code (3 : Nat) (Option.some Jvm.ClassFile.FieldType.int)) ∈ lw_all := lw_g (lw_at lw_m8 69 rfl) rfl
theorem q1833 : (Jvm.Cond.instanceMethod ({ cls := "SeenInOrderOfAgeModel", name := "taken", desc := "(II)I" } : Jvm.MethodName)) ∈ lw_all := lw_g (lw_at lw_m8 71 rfl) rfl
theorem q1834 : (Jvm.Cond.selects "SeenInOrderOfAgeModel" ({ cls := "SeenInOrderOfAgeModel", name := "taken", desc := "(II)I" } : Jvm.MethodName) ({ cls := "SeenInOrderOfAgeModel", name := "taken", desc := "(II)I" } : Jvm.MethodName)) ∈ lw_all := lw_g (lw_at lw_m8 72 rfl) rfl
theorem q1835 : (Jvm.Cond.code ({ cls := "SeenInOrderOfAgeModel", name := "taken", desc := "(II)I" } : Jvm.MethodName) prog_17_method_53_code (3 : Nat) (Option.some Jvm.ClassFile.FieldType.int)) ∈ lw_all := lw_g (lw_at lw_m8 73 rfl) rfl
theorem q1837 : (Jvm.Cond.instanceMethod ({ cls := "SeenInOrderOfAgeModel", name := "glad", desc := "(II)I" } : Jvm.MethodName)) ∈ lw_all := lw_g (lw_at lw_m8 75 rfl) rfl
theorem q1838 : (Jvm.Cond.selects "SeenInOrderOfAgeModel" ({ cls := "SeenInOrderOfAgeModel", name := "glad", desc := "(II)I" } : Jvm.MethodName) ({ cls := "SeenInOrderOfAgeModel", name := "glad", desc := "(II)I" } : Jvm.MethodName)) ∈ lw_all := lw_g (lw_at lw_m8 76 rfl) rfl
theorem q1839 : (Jvm.Cond.code ({ cls := "SeenInOrderOfAgeModel", name := "glad", desc := "(II)I" } : Jvm.MethodName) prog_17_method_54_code (6 : Nat) (Option.some Jvm.ClassFile.FieldType.int)) ∈ lw_all := lw_g (lw_at lw_m8 77 rfl) rfl
theorem q1840 : (Jvm.Cond.methodLink "SeenInOrderOfAgeModel" (240 : Nat) ({ cls := "SeenInOrderOfAgeModel", name := "gladOf", desc := "(I)I" } : Jvm.MethodName)) ∈ lw_all := lw_g (lw_at lw_m8 78 rfl) rfl
theorem q1841 : (Jvm.Cond.privateMethod ({ cls := "SeenInOrderOfAgeModel", name := "gladOf", desc := "(I)I" } : Jvm.MethodName)) ∈ lw_tbl := lw_at lw_m8 79 rfl
theorem q1842 : (Jvm.Cond.instanceMethod ({ cls := "SeenInOrderOfAgeModel", name := "gladOf", desc := "(I)I" } : Jvm.MethodName)) ∈ lw_all := lw_g (lw_at lw_m8 80 rfl) rfl
theorem q1843 : (Jvm.Cond.code ({ cls := "SeenInOrderOfAgeModel", name := "gladOf", desc := "(I)I" } : Jvm.MethodName) prog_17_method_51_code (4 : Nat) (Option.some Jvm.ClassFile.FieldType.int)) ∈ lw_all := lw_g (lw_at lw_m8 81 rfl) rfl
theorem q1844 : (Jvm.Cond.methodLink "SeenInOrderOfAgeModel" (231 : Nat) ({ cls := "SeenInOrderOfAgeModel", name := "isGlad", desc := "(I)Z" } : Jvm.MethodName)) ∈ lw_all := lw_g (lw_at lw_m8 82 rfl) rfl
theorem q1845 : (Jvm.Cond.privateMethod ({ cls := "SeenInOrderOfAgeModel", name := "isGlad", desc := "(I)Z" } : Jvm.MethodName)) ∈ lw_tbl := lw_at lw_m8 83 rfl
theorem q1846 : (Jvm.Cond.instanceMethod ({ cls := "SeenInOrderOfAgeModel", name := "isGlad", desc := "(I)Z" } : Jvm.MethodName)) ∈ lw_all := lw_g (lw_at lw_m8 84 rfl) rfl
theorem q1847 : (Jvm.Cond.code ({ cls := "SeenInOrderOfAgeModel", name := "isGlad", desc := "(I)Z" } : Jvm.MethodName) prog_17_method_50_code (3 : Nat) (Option.some Jvm.ClassFile.FieldType.boolean)) ∈ lw_all := lw_g (lw_at lw_m8 85 rfl) rfl
theorem q1849 : (Jvm.Cond.instanceMethod ({ cls := "SeenInOrderOfAgeModel", name := "order", desc := "(II)I" } : Jvm.MethodName)) ∈ lw_all := lw_g (lw_at lw_m8 87 rfl) rfl
theorem q1850 : (Jvm.Cond.selects "SeenInOrderOfAgeModel" ({ cls := "SeenInOrderOfAgeModel", name := "order", desc := "(II)I" } : Jvm.MethodName) ({ cls := "SeenInOrderOfAgeModel", name := "order", desc := "(II)I" } : Jvm.MethodName)) ∈ lw_all := lw_g (lw_at lw_m8 88 rfl) rfl
theorem q1851 : (Jvm.Cond.code ({ cls := "SeenInOrderOfAgeModel", name := "order", desc := "(II)I" } : Jvm.MethodName) prog_17_method_55_code (3 : Nat) (Option.some Jvm.ClassFile.FieldType.int)) ∈ lw_all := lw_g (lw_at lw_m8 89 rfl) rfl
theorem q1852 : (Jvm.Cond.methodLink "SeenInOrderOfAgeModel" (243 : Nat) ({ cls := "java/lang/Integer", name := "bitCount", desc := "(I)I" } : Jvm.MethodName)) ∈ lw_all := lw_g (lw_at lw_m8 90 rfl) rfl
theorem q1854 : (Jvm.Cond.instanceMethod ({ cls := "SeenInOrderOfAgeModel", name := "away", desc := "(II)I" } : Jvm.MethodName)) ∈ lw_all := lw_g (lw_at lw_m8 92 rfl) rfl
theorem q1855 : (Jvm.Cond.selects "SeenInOrderOfAgeModel" ({ cls := "SeenInOrderOfAgeModel", name := "away", desc := "(II)I" } : Jvm.MethodName) ({ cls := "SeenInOrderOfAgeModel", name := "away", desc := "(II)I" } : Jvm.MethodName)) ∈ lw_all := lw_g (lw_at lw_m8 93 rfl) rfl
theorem q1856 : (Jvm.Cond.code ({ cls := "SeenInOrderOfAgeModel", name := "away", desc := "(II)I" } : Jvm.MethodName) prog_17_method_56_code (6 : Nat) (Option.some Jvm.ClassFile.FieldType.int)) ∈ lw_all := lw_g (lw_at lw_m8 94 rfl) rfl
theorem q1858 : (Jvm.Cond.instanceMethod ({ cls := "SeenInOrderOfAgeModel", name := "crowd", desc := "(II)I" } : Jvm.MethodName)) ∈ lw_all := lw_g (lw_at lw_m8 96 rfl) rfl
theorem q1859 : (Jvm.Cond.selects "SeenInOrderOfAgeModel" ({ cls := "SeenInOrderOfAgeModel", name := "crowd", desc := "(II)I" } : Jvm.MethodName) ({ cls := "SeenInOrderOfAgeModel", name := "crowd", desc := "(II)I" } : Jvm.MethodName)) ∈ lw_all := lw_g (lw_at lw_m8 97 rfl) rfl
theorem q1860 : (Jvm.Cond.code ({ cls := "SeenInOrderOfAgeModel", name := "crowd", desc := "(II)I" } : Jvm.MethodName) prog_17_method_57_code (7 : Nat) (Option.some Jvm.ClassFile.FieldType.int)) ∈ lw_all := lw_g (lw_at lw_m8 98 rfl) rfl
theorem q1862 : (Jvm.Cond.instanceMethod ({ cls := "SeenInOrderOfAgeModel", name := "setOut", desc := "(II)I" } : Jvm.MethodName)) ∈ lw_all := lw_g (lw_at lw_m8 100 rfl) rfl
theorem q1863 : (Jvm.Cond.selects "SeenInOrderOfAgeModel" ({ cls := "SeenInOrderOfAgeModel", name := "setOut", desc := "(II)I" } : Jvm.MethodName) ({ cls := "SeenInOrderOfAgeModel", name := "setOut", desc := "(II)I" } : Jvm.MethodName)) ∈ lw_all := lw_g (lw_at lw_m8 101 rfl) rfl
theorem q1864 : (Jvm.Cond.code ({ cls := "SeenInOrderOfAgeModel", name := "setOut", desc := "(II)I" } : Jvm.MethodName) prog_17_method_59_code (5 : Nat) (Option.some Jvm.ClassFile.FieldType.int)) ∈ lw_all := lw_g (lw_at lw_m8 102 rfl) rfl
theorem q1865 : (Jvm.Cond.methodLink "SeenInOrderOfAgeModel" (248 : Nat) ({ cls := "SeenInOrderOfAgeModel", name := "putsOut", desc := "(IIII)Z" } : Jvm.MethodName)) ∈ lw_all := lw_g (lw_at lw_m8 103 rfl) rfl
theorem q1866 : (Jvm.Cond.privateMethod ({ cls := "SeenInOrderOfAgeModel", name := "putsOut", desc := "(IIII)Z" } : Jvm.MethodName)) ∈ lw_tbl := lw_at lw_m8 104 rfl
theorem q1867 : (Jvm.Cond.instanceMethod ({ cls := "SeenInOrderOfAgeModel", name := "putsOut", desc := "(IIII)Z" } : Jvm.MethodName)) ∈ lw_all := lw_g (lw_at lw_m8 105 rfl) rfl
theorem q1868 : (Jvm.Cond.code ({ cls := "SeenInOrderOfAgeModel", name := "putsOut", desc := "(IIII)Z" } : Jvm.MethodName) prog_17_method_58_code (8 : Nat) (Option.some Jvm.ClassFile.FieldType.boolean)) ∈ lw_all := lw_g (lw_at lw_m8 106 rfl) rfl
theorem q1870 : (Jvm.Cond.instanceMethod ({ cls := "SeenInOrderOfAgeModel", name := "who", desc := "(II)I" } : Jvm.MethodName)) ∈ lw_all := lw_g (lw_at lw_m8 108 rfl) rfl
theorem q1871 : (Jvm.Cond.selects "SeenInOrderOfAgeModel" ({ cls := "SeenInOrderOfAgeModel", name := "who", desc := "(II)I" } : Jvm.MethodName) ({ cls := "SeenInOrderOfAgeModel", name := "who", desc := "(II)I" } : Jvm.MethodName)) ∈ lw_all := lw_g (lw_at lw_m8 109 rfl) rfl
theorem q1872 : (Jvm.Cond.code ({ cls := "SeenInOrderOfAgeModel", name := "who", desc := "(II)I" } : Jvm.MethodName) prog_17_method_60_code (8 : Nat) (Option.some Jvm.ClassFile.FieldType.int)) ∈ lw_all := lw_g (lw_at lw_m8 110 rfl) rfl
theorem q1873 : (Jvm.Cond.methodLink "SeenInOrderOfAgeModel" (252 : Nat) ({ cls := "SeenInOrderOfAgeModel", name := "arePlaces", desc := "(I)Z" } : Jvm.MethodName)) ∈ lw_all := lw_g (lw_at lw_m8 111 rfl) rfl
theorem q1874 : (Jvm.Cond.static ({ cls := "SeenInOrderOfAgeModel", name := "arePlaces", desc := "(I)Z" } : Jvm.MethodName)) ∈ lw_all := lw_g (lw_at lw_m8 112 rfl) rfl
theorem q1875 : (Jvm.Cond.code ({ cls := "SeenInOrderOfAgeModel", name := "arePlaces", desc := "(I)Z" } : Jvm.MethodName) prog_17_method_9_code (1 : Nat) (Option.some Jvm.ClassFile.FieldType.boolean)) ∈ lw_all := lw_g (lw_at lw_m8 113 rfl) rfl
theorem q1877 : (Jvm.Cond.instanceMethod ({ cls := "SeenInOrderOfAgeModel", name := "kinds", desc := "(IIII)I" } : Jvm.MethodName)) ∈ lw_all := lw_g (lw_at lw_m8 115 rfl) rfl
theorem q1878 : (Jvm.Cond.selects "SeenInOrderOfAgeModel" ({ cls := "SeenInOrderOfAgeModel", name := "kinds", desc := "(IIII)I" } : Jvm.MethodName) ({ cls := "SeenInOrderOfAgeModel", name := "kinds", desc := "(IIII)I" } : Jvm.MethodName)) ∈ lw_all := lw_g (lw_at lw_m8 116 rfl) rfl
theorem q1879 : (Jvm.Cond.code ({ cls := "SeenInOrderOfAgeModel", name := "kinds", desc := "(IIII)I" } : Jvm.MethodName) prog_17_method_61_code (9 : Nat) (Option.some Jvm.ClassFile.FieldType.int)) ∈ lw_all := lw_g (lw_at lw_m8 117 rfl) rfl
theorem q1881 : (Jvm.Cond.instanceMethod ({ cls := "SeenInOrderOfAgeModel", name := "odds", desc := "(I)I" } : Jvm.MethodName)) ∈ lw_all := lw_g (lw_at lw_m8 119 rfl) rfl
theorem q1882 : (Jvm.Cond.selects "SeenInOrderOfAgeModel" ({ cls := "SeenInOrderOfAgeModel", name := "odds", desc := "(I)I" } : Jvm.MethodName) ({ cls := "SeenInOrderOfAgeModel", name := "odds", desc := "(I)I" } : Jvm.MethodName)) ∈ lw_all := lw_g (lw_at lw_m8 120 rfl) rfl
theorem q1883 : (Jvm.Cond.code ({ cls := "SeenInOrderOfAgeModel", name := "odds", desc := "(I)I" } : Jvm.MethodName) prog_17_method_64_code (5 : Nat) (Option.some Jvm.ClassFile.FieldType.int)) ∈ lw_all := lw_g (lw_at lw_m8 121 rfl) rfl
theorem q1884 : (Jvm.Cond.methodLink "SeenInOrderOfAgeModel" (257 : Nat) ({ cls := "SeenInOrderOfAgeModel", name := "waysOf", desc := "(II)J" } : Jvm.MethodName)) ∈ lw_all := lw_g (lw_at lw_m8 122 rfl) rfl
theorem q1885 : (Jvm.Cond.privateMethod ({ cls := "SeenInOrderOfAgeModel", name := "waysOf", desc := "(II)J" } : Jvm.MethodName)) ∈ lw_tbl := lw_at lw_m8 123 rfl
theorem q1886 : (Jvm.Cond.instanceMethod ({ cls := "SeenInOrderOfAgeModel", name := "waysOf", desc := "(II)J" } : Jvm.MethodName)) ∈ lw_all := lw_g (lw_at lw_m8 124 rfl) rfl
theorem q1887 : (Jvm.Cond.code ({ cls := "SeenInOrderOfAgeModel", name := "waysOf", desc := "(II)J" } : Jvm.MethodName) prog_17_method_62_code (6 : Nat) (Option.some Jvm.ClassFile.FieldType.long)) ∈ lw_all := lw_g (lw_at lw_m8 125 rfl) rfl
theorem q1888 : (Jvm.Cond.constantLong "SeenInOrderOfAgeModel" (261 : Nat) (1000000 : Int64)) ∈ lw_all := lw_g (lw_at lw_m8 126 rfl) rfl
theorem q1889 : (Jvm.Cond.methodLink "SeenInOrderOfAgeModel" (263 : Nat) ({ cls := "SeenInOrderOfAgeModel", name := "allWays", desc := "(I)J" } : Jvm.MethodName)) ∈ lw_all := lw_g (lw_at lw_m8 127 rfl) rfl
theorem q1890 : (Jvm.Cond.privateMethod ({ cls := "SeenInOrderOfAgeModel", name := "allWays", desc := "(I)J" } : Jvm.MethodName)) ∈ lw_tbl := lw_at lw_m8 128 rfl
theorem q1891 : (Jvm.Cond.instanceMethod ({ cls := "SeenInOrderOfAgeModel", name := "allWays", desc := "(I)J" } : Jvm.MethodName)) ∈ lw_all := lw_g (lw_at lw_m8 129 rfl) rfl
theorem q1892 : (Jvm.Cond.code ({ cls := "SeenInOrderOfAgeModel", name := "allWays", desc := "(I)J" } : Jvm.MethodName) prog_17_method_63_code (5 : Nat) (Option.some Jvm.ClassFile.FieldType.long)) ∈ lw_all := lw_g (lw_at lw_m8 130 rfl) rfl
theorem q1893 : (Jvm.Cond.constantLong "SeenInOrderOfAgeModel" (255 : Nat) (12 : Int64)) ∈ lw_all := lw_g (lw_at lw_m8 131 rfl) rfl
theorem q1895 : (Jvm.Cond.instanceMethod ({ cls := "SeenInOrderOfAgeModel", name := "likely", desc := "(I)I" } : Jvm.MethodName)) ∈ lw_all := lw_g (lw_at lw_m8 133 rfl) rfl
theorem q1896 : (Jvm.Cond.selects "SeenInOrderOfAgeModel" ({ cls := "SeenInOrderOfAgeModel", name := "likely", desc := "(I)I" } : Jvm.MethodName) ({ cls := "SeenInOrderOfAgeModel", name := "likely", desc := "(I)I" } : Jvm.MethodName)) ∈ lw_all := lw_g (lw_at lw_m8 134 rfl) rfl
theorem q1897 : (Jvm.Cond.code ({ cls := "SeenInOrderOfAgeModel", name := "likely", desc := "(I)I" } : Jvm.MethodName) prog_17_method_65_code (5 : Nat) (Option.some Jvm.ClassFile.FieldType.int)) ∈ lw_all := lw_g (lw_at lw_m8 135 rfl) rfl
theorem q1899 : (Jvm.Cond.instanceMethod ({ cls := "SeenInOrderOfAgeModel", name := "gladOdds", desc := "(I)I" } : Jvm.MethodName)) ∈ lw_all := lw_g (lw_at lw_m8 137 rfl) rfl
theorem q1900 : (Jvm.Cond.selects "SeenInOrderOfAgeModel" ({ cls := "SeenInOrderOfAgeModel", name := "gladOdds", desc := "(I)I" } : Jvm.MethodName) ({ cls := "SeenInOrderOfAgeModel", name := "gladOdds", desc := "(I)I" } : Jvm.MethodName)) ∈ lw_all := lw_g (lw_at lw_m8 138 rfl) rfl
theorem q1901 : (Jvm.Cond.code ({ cls := "SeenInOrderOfAgeModel", name := "gladOdds", desc := "(I)I" } : Jvm.MethodName) prog_17_method_66_code (5 : Nat) (Option.some Jvm.ClassFile.FieldType.int)) ∈ lw_all := lw_g (lw_at lw_m8 139 rfl) rfl
theorem q1903 : (Jvm.Cond.instanceMethod ({ cls := "SeenInOrderOfAgeModel", name := "meanLeft", desc := "()I" } : Jvm.MethodName)) ∈ lw_all := lw_g (lw_at lw_m8 141 rfl) rfl
theorem q1904 : (Jvm.Cond.selects "SeenInOrderOfAgeModel" ({ cls := "SeenInOrderOfAgeModel", name := "meanLeft", desc := "()I" } : Jvm.MethodName) ({ cls := "SeenInOrderOfAgeModel", name := "meanLeft", desc := "()I" } : Jvm.MethodName)) ∈ lw_all := lw_g (lw_at lw_m8 142 rfl) rfl
theorem q1905 : (Jvm.Cond.code ({ cls := "SeenInOrderOfAgeModel", name := "meanLeft", desc := "()I" } : Jvm.MethodName) prog_17_method_67_code (4 : Nat) (Option.some Jvm.ClassFile.FieldType.int)) ∈ lw_all := lw_g (lw_at lw_m8 143 rfl) rfl
theorem q1906 : (Jvm.Cond.constantLong "SeenInOrderOfAgeModel" (267 : Nat) (1000 : Int64)) ∈ lw_all := lw_g (lw_at lw_m8 144 rfl) rfl
theorem q1908 : (Jvm.Cond.instanceMethod ({ cls := "SeenInOrderOfAgeModel", name := "empty", desc := "(I)I" } : Jvm.MethodName)) ∈ lw_all := lw_g (lw_at lw_m8 146 rfl) rfl
theorem q1909 : (Jvm.Cond.selects "SeenInOrderOfAgeModel" ({ cls := "SeenInOrderOfAgeModel", name := "empty", desc := "(I)I" } : Jvm.MethodName) ({ cls := "SeenInOrderOfAgeModel", name := "empty", desc := "(I)I" } : Jvm.MethodName)) ∈ lw_all := lw_g (lw_at lw_m8 147 rfl) rfl
theorem q1910 : (Jvm.Cond.code ({ cls := "SeenInOrderOfAgeModel", name := "empty", desc := "(I)I" } : Jvm.MethodName) prog_17_method_68_code (4 : Nat) (Option.some Jvm.ClassFile.FieldType.int)) ∈ lw_all := lw_g (lw_at lw_m8 148 rfl) rfl
theorem q1912 : (Jvm.Cond.instanceMethod ({ cls := "SeenInOrderOfAgeModel", name := "without", desc := "(I)I" } : Jvm.MethodName)) ∈ lw_all := lw_g (lw_at lw_m8 150 rfl) rfl
theorem q1913 : (Jvm.Cond.selects "SeenInOrderOfAgeModel" ({ cls := "SeenInOrderOfAgeModel", name := "without", desc := "(I)I" } : Jvm.MethodName) ({ cls := "SeenInOrderOfAgeModel", name := "without", desc := "(I)I" } : Jvm.MethodName)) ∈ lw_all := lw_g (lw_at lw_m8 151 rfl) rfl
theorem q1914 : (Jvm.Cond.code ({ cls := "SeenInOrderOfAgeModel", name := "without", desc := "(I)I" } : Jvm.MethodName) prog_17_method_69_code (2 : Nat) (Option.some Jvm.ClassFile.FieldType.int)) ∈ lw_all := lw_g (lw_at lw_m8 152 rfl) rfl
theorem q1916 : (Jvm.Cond.instanceMethod ({ cls := "SeenInOrderOfAgeModel", name := "exchanged", desc := "(II)I" } : Jvm.MethodName)) ∈ lw_all := lw_g (lw_at lw_m8 154 rfl) rfl
theorem q1917 : (Jvm.Cond.selects "SeenInOrderOfAgeModel" ({ cls := "SeenInOrderOfAgeModel", name := "exchanged", desc := "(II)I" } : Jvm.MethodName) ({ cls := "SeenInOrderOfAgeModel", name := "exchanged", desc := "(II)I" } : Jvm.MethodName)) ∈ lw_all := lw_g (lw_at lw_m8 155 rfl) rfl
theorem q1918 : (Jvm.Cond.code ({ cls := "SeenInOrderOfAgeModel", name := "exchanged", desc := "(II)I" } : Jvm.MethodName) prog_17_method_71_code (3 : Nat) (Option.some Jvm.ClassFile.FieldType.int)) ∈ lw_all := lw_g (lw_at lw_m8 156 rfl) rfl
theorem q1919 : (Jvm.Cond.methodLink "SeenInOrderOfAgeModel" (269 : Nat) ({ cls := "SeenInOrderOfAgeModel", name := "exchanges", desc := "(II)I" } : Jvm.MethodName)) ∈ lw_all := lw_g (lw_at lw_m8 157 rfl) rfl
theorem q1920 : (Jvm.Cond.privateMethod ({ cls := "SeenInOrderOfAgeModel", name := "exchanges", desc := "(II)I" } : Jvm.MethodName)) ∈ lw_tbl := lw_at lw_m8 158 rfl
theorem q1921 : (Jvm.Cond.instanceMethod ({ cls := "SeenInOrderOfAgeModel", name := "exchanges", desc := "(II)I" } : Jvm.MethodName)) ∈ lw_all := lw_g (lw_at lw_m8 159 rfl) rfl
theorem q1922 : (Jvm.Cond.code ({ cls := "SeenInOrderOfAgeModel", name := "exchanges", desc := "(II)I" } : Jvm.MethodName) prog_17_method_70_code (5 : Nat) (Option.some Jvm.ClassFile.FieldType.int)) ∈ lw_all := lw_g (lw_at lw_m8 160 rfl) rfl
theorem q1924 : (Jvm.Cond.instanceMethod ({ cls := "SeenInOrderOfAgeModel", name := "bestPair", desc := "()I" } : Jvm.MethodName)) ∈ lw_all := lw_g (lw_at lw_m8 162 rfl) rfl
theorem q1925 : (Jvm.Cond.selects "SeenInOrderOfAgeModel" ({ cls := "SeenInOrderOfAgeModel", name := "bestPair", desc := "()I" } : Jvm.MethodName) ({ cls := "SeenInOrderOfAgeModel", name := "bestPair", desc := "()I" } : Jvm.MethodName)) ∈ lw_all := lw_g (lw_at lw_m8 163 rfl) rfl
theorem q1926 : (Jvm.Cond.code ({ cls := "SeenInOrderOfAgeModel", name := "bestPair", desc := "()I" } : Jvm.MethodName) prog_17_method_72_code (6 : Nat) (Option.some Jvm.ClassFile.FieldType.int)) ∈ lw_all := lw_g (lw_at lw_m8 164 rfl) rfl
theorem q1928 : (Jvm.Cond.instanceMethod ({ cls := "SeenInOrderOfAgeModel", name := "gladOnes", desc := "(I)I" } : Jvm.MethodName)) ∈ lw_all := lw_g (lw_at lw_m8 166 rfl) rfl
theorem q1929 : (Jvm.Cond.selects "SeenInOrderOfAgeModel" ({ cls := "SeenInOrderOfAgeModel", name := "gladOnes", desc := "(I)I" } : Jvm.MethodName) ({ cls := "SeenInOrderOfAgeModel", name := "gladOnes", desc := "(I)I" } : Jvm.MethodName)) ∈ lw_all := lw_g (lw_at lw_m8 167 rfl) rfl
theorem q1930 : (Jvm.Cond.code ({ cls := "SeenInOrderOfAgeModel", name := "gladOnes", desc := "(I)I" } : Jvm.MethodName) prog_17_method_73_code (4 : Nat) (Option.some Jvm.ClassFile.FieldType.int)) ∈ lw_all := lw_g (lw_at lw_m8 168 rfl) rfl
theorem q1932 : (Jvm.Cond.instanceMethod ({ cls := "SeenInOrderOfAgeModel", name := "oldest", desc := "(I)I" } : Jvm.MethodName)) ∈ lw_all := lw_g (lw_at lw_m8 170 rfl) rfl
theorem q1933 : (Jvm.Cond.selects "SeenInOrderOfAgeModel" ({ cls := "SeenInOrderOfAgeModel", name := "oldest", desc := "(I)I" } : Jvm.MethodName) ({ cls := "SeenInOrderOfAgeModel", name := "oldest", desc := "(I)I" } : Jvm.MethodName)) ∈ lw_all := lw_g (lw_at lw_m8 171 rfl) rfl
theorem q1934 : (Jvm.Cond.code ({ cls := "SeenInOrderOfAgeModel", name := "oldest", desc := "(I)I" } : Jvm.MethodName) prog_17_method_74_code (5 : Nat) (Option.some Jvm.ClassFile.FieldType.int)) ∈ lw_all := lw_g (lw_at lw_m8 172 rfl) rfl
theorem q1936 : (Jvm.Cond.instanceMethod ({ cls := "SeenInOrderOfAgeModel", name := "twice", desc := "(II)I" } : Jvm.MethodName)) ∈ lw_all := lw_g (lw_at lw_m8 174 rfl) rfl
theorem q1937 : (Jvm.Cond.selects "SeenInOrderOfAgeModel" ({ cls := "SeenInOrderOfAgeModel", name := "twice", desc := "(II)I" } : Jvm.MethodName) ({ cls := "SeenInOrderOfAgeModel", name := "twice", desc := "(II)I" } : Jvm.MethodName)) ∈ lw_all := lw_g (lw_at lw_m8 175 rfl) rfl
theorem q1938 : (Jvm.Cond.code ({ cls := "SeenInOrderOfAgeModel", name := "twice", desc := "(II)I" } : Jvm.MethodName) prog_17_method_75_code (4 : Nat) (Option.some Jvm.ClassFile.FieldType.int)) ∈ lw_all := lw_g (lw_at lw_m8 176 rfl) rfl
theorem q1940 : (Jvm.Cond.instanceMethod ({ cls := "SeenInOrderOfAgeModel", name := "unlike", desc := "(I)I" } : Jvm.MethodName)) ∈ lw_all := lw_g (lw_at lw_m8 178 rfl) rfl
theorem q1941 : (Jvm.Cond.selects "SeenInOrderOfAgeModel" ({ cls := "SeenInOrderOfAgeModel", name := "unlike", desc := "(I)I" } : Jvm.MethodName) ({ cls := "SeenInOrderOfAgeModel", name := "unlike", desc := "(I)I" } : Jvm.MethodName)) ∈ lw_all := lw_g (lw_at lw_m8 179 rfl) rfl
theorem q1942 : (Jvm.Cond.code ({ cls := "SeenInOrderOfAgeModel", name := "unlike", desc := "(I)I" } : Jvm.MethodName) prog_17_method_76_code (4 : Nat) (Option.some Jvm.ClassFile.FieldType.int)) ∈ lw_all := lw_g (lw_at lw_m8 180 rfl) rfl
theorem q1944 : (Jvm.Cond.instanceMethod ({ cls := "SeenInOrderOfAgeModel", name := "places", desc := "()I" } : Jvm.MethodName)) ∈ lw_all := lw_g (lw_at lw_m8 182 rfl) rfl
theorem q1945 : (Jvm.Cond.selects "SeenInOrderOfAgeModel" ({ cls := "SeenInOrderOfAgeModel", name := "places", desc := "()I" } : Jvm.MethodName) ({ cls := "SeenInOrderOfAgeModel", name := "places", desc := "()I" } : Jvm.MethodName)) ∈ lw_all := lw_g (lw_at lw_m8 183 rfl) rfl
theorem q1946 : (Jvm.Cond.code ({ cls := "SeenInOrderOfAgeModel", name := "places", desc := "()I" } : Jvm.MethodName) prog_17_method_77_code (3 : Nat) (Option.some Jvm.ClassFile.FieldType.int)) ∈ lw_all := lw_g (lw_at lw_m8 184 rfl) rfl
theorem q1948 : (Jvm.Cond.instanceMethod ({ cls := "SeenInOrderOfAgeModel", name := "sorts", desc := "(II)I" } : Jvm.MethodName)) ∈ lw_all := lw_g (lw_at lw_m8 186 rfl) rfl
theorem q1949 : (Jvm.Cond.selects "SeenInOrderOfAgeModel" ({ cls := "SeenInOrderOfAgeModel", name := "sorts", desc := "(II)I" } : Jvm.MethodName) ({ cls := "SeenInOrderOfAgeModel", name := "sorts", desc := "(II)I" } : Jvm.MethodName)) ∈ lw_all := lw_g (lw_at lw_m8 187 rfl) rfl
theorem q1950 : (Jvm.Cond.code ({ cls := "SeenInOrderOfAgeModel", name := "sorts", desc := "(II)I" } : Jvm.MethodName) prog_17_method_79_code (5 : Nat) (Option.some Jvm.ClassFile.FieldType.int)) ∈ lw_all := lw_g (lw_at lw_m8 188 rfl) rfl
theorem q1951 : (Jvm.Cond.methodLink "SeenInOrderOfAgeModel" (272 : Nat) ({ cls := "SeenInOrderOfAgeModel", name := "inWindow", desc := "(I)I" } : Jvm.MethodName)) ∈ lw_all := lw_g (lw_at lw_m8 189 rfl) rfl
theorem q1952 : (Jvm.Cond.privateMethod ({ cls := "SeenInOrderOfAgeModel", name := "inWindow", desc := "(I)I" } : Jvm.MethodName)) ∈ lw_tbl := lw_at lw_m8 190 rfl
theorem q1953 : (Jvm.Cond.instanceMethod ({ cls := "SeenInOrderOfAgeModel", name := "inWindow", desc := "(I)I" } : Jvm.MethodName)) ∈ lw_all := lw_g (lw_at lw_m8 191 rfl) rfl
theorem q1954 : (Jvm.Cond.code ({ cls := "SeenInOrderOfAgeModel", name := "inWindow", desc := "(I)I" } : Jvm.MethodName) prog_17_method_78_code (4 : Nat) (Option.some Jvm.ClassFile.FieldType.int)) ∈ lw_all := lw_g (lw_at lw_m8 192 rfl) rfl
theorem q1956 : (Jvm.Cond.instanceMethod ({ cls := "SeenInOrderOfAgeModel", name := "rare", desc := "(I)I" } : Jvm.MethodName)) ∈ lw_all := lw_g (lw_at lw_m8 194 rfl) rfl
theorem q1957 : (Jvm.Cond.selects "SeenInOrderOfAgeModel" ({ cls := "SeenInOrderOfAgeModel", name := "rare", desc := "(I)I" } : Jvm.MethodName) ({ cls := "SeenInOrderOfAgeModel", name := "rare", desc := "(I)I" } : Jvm.MethodName)) ∈ lw_all := lw_g (lw_at lw_m8 195 rfl) rfl
theorem q1958 : (Jvm.Cond.code ({ cls := "SeenInOrderOfAgeModel", name := "rare", desc := "(I)I" } : Jvm.MethodName) prog_17_method_80_code (5 : Nat) (Option.some Jvm.ClassFile.FieldType.int)) ∈ lw_all := lw_g (lw_at lw_m8 196 rfl) rfl
theorem q1960 : (Jvm.Cond.instanceMethod ({ cls := "SeenInOrderOfAgeModel", name := "first", desc := "(I)I" } : Jvm.MethodName)) ∈ lw_all := lw_g (lw_at lw_m8 198 rfl) rfl
theorem q1961 : (Jvm.Cond.selects "SeenInOrderOfAgeModel" ({ cls := "SeenInOrderOfAgeModel", name := "first", desc := "(I)I" } : Jvm.MethodName) ({ cls := "SeenInOrderOfAgeModel", name := "first", desc := "(I)I" } : Jvm.MethodName)) ∈ lw_all := lw_g (lw_at lw_m8 199 rfl) rfl
theorem q1962 : (Jvm.Cond.code ({ cls := "SeenInOrderOfAgeModel", name := "first", desc := "(I)I" } : Jvm.MethodName) prog_17_method_82_code (4 : Nat) (Option.some Jvm.ClassFile.FieldType.int)) ∈ lw_all := lw_g (lw_at lw_m8 200 rfl) rfl
theorem q1963 : (Jvm.Cond.methodLink "SeenInOrderOfAgeModel" (275 : Nat) ({ cls := "SeenInOrderOfAgeModel", name := "rank", desc := "(II)I" } : Jvm.MethodName)) ∈ lw_all := lw_g (lw_at lw_m8 201 rfl) rfl
theorem q1964 : (Jvm.Cond.privateMethod ({ cls := "SeenInOrderOfAgeModel", name := "rank", desc := "(II)I" } : Jvm.MethodName)) ∈ lw_tbl := lw_at lw_m8 202 rfl
theorem q1965 : (Jvm.Cond.instanceMethod ({ cls := "SeenInOrderOfAgeModel", name := "rank", desc := "(II)I" } : Jvm.MethodName)) ∈ lw_all := lw_g (lw_at lw_m8 203 rfl) rfl
theorem q1966 : (Jvm.Cond.code ({ cls := "SeenInOrderOfAgeModel", name := "rank", desc := "(II)I" } : Jvm.MethodName) prog_17_method_81_code (5 : Nat) (Option.some Jvm.ClassFile.FieldType.int)) ∈ lw_all := lw_g (lw_at lw_m8 204 rfl) rfl
theorem q1968 : (Jvm.Cond.instanceMethod ({ cls := "SeenInOrderOfAgeModel", name := "next", desc := "(I)I" } : Jvm.MethodName)) ∈ lw_all := lw_g (lw_at lw_m8 206 rfl) rfl
theorem q1969 : (Jvm.Cond.selects "SeenInOrderOfAgeModel" ({ cls := "SeenInOrderOfAgeModel", name := "next", desc := "(I)I" } : Jvm.MethodName) ({ cls := "SeenInOrderOfAgeModel", name := "next", desc := "(I)I" } : Jvm.MethodName)) ∈ lw_all := lw_g (lw_at lw_m8 207 rfl) rfl
theorem q1970 : (Jvm.Cond.code ({ cls := "SeenInOrderOfAgeModel", name := "next", desc := "(I)I" } : Jvm.MethodName) prog_17_method_87_code (2 : Nat) (Option.some Jvm.ClassFile.FieldType.int)) ∈ lw_all := lw_g (lw_at lw_m8 208 rfl) rfl
theorem q1971 : (Jvm.Cond.methodLink "SeenInOrderOfAgeModel" (287 : Nat) ({ cls := "SeenInOrderOfAgeModel", name := "swaps", desc := "()V" } : Jvm.MethodName)) ∈ lw_all := lw_g (lw_at lw_m8 209 rfl) rfl
theorem q1972 : (Jvm.Cond.privateMethod ({ cls := "SeenInOrderOfAgeModel", name := "swaps", desc := "()V" } : Jvm.MethodName)) ∈ lw_tbl := lw_at lw_m8 210 rfl
theorem q1973 : (Jvm.Cond.instanceMethod ({ cls := "SeenInOrderOfAgeModel", name := "swaps", desc := "()V" } : Jvm.MethodName)) ∈ lw_all := lw_g (lw_at lw_m8 211 rfl) rfl
theorem q1974 : (Jvm.Cond.code ({ cls := "SeenInOrderOfAgeModel", name := "swaps", desc := "()V" } : Jvm.MethodName) prog_17_method_86_code (4 : Nat) (Option.none : Option Jvm.ClassFile.FieldType)) ∈ lw_all := lw_g (lw_at lw_m8 212 rfl) rfl
theorem q1975 : (Jvm.Cond.methodLink "SeenInOrderOfAgeModel" (281 : Nat) ({ cls := "SeenInOrderOfAgeModel", name := "wishOf", desc := "(I)I" } : Jvm.MethodName)) ∈ lw_all := lw_g (lw_at lw_m8 213 rfl) rfl
theorem q1976 : (Jvm.Cond.privateMethod ({ cls := "SeenInOrderOfAgeModel", name := "wishOf", desc := "(I)I" } : Jvm.MethodName)) ∈ lw_tbl := lw_at lw_m8 214 rfl
theorem q1977 : (Jvm.Cond.instanceMethod ({ cls := "SeenInOrderOfAgeModel", name := "wishOf", desc := "(I)I" } : Jvm.MethodName)) ∈ lw_all := lw_g (lw_at lw_m8 215 rfl) rfl
theorem q1978 : (Jvm.Cond.code ({ cls := "SeenInOrderOfAgeModel", name := "wishOf", desc := "(I)I" } : Jvm.MethodName) prog_17_method_84_code (4 : Nat) (Option.some Jvm.ClassFile.FieldType.int)) ∈ lw_all := lw_g (lw_at lw_m8 216 rfl) rfl
theorem q1979 : (Jvm.Cond.methodLink "SeenInOrderOfAgeModel" (278 : Nat) ({ cls := "SeenInOrderOfAgeModel", name := "bringer", desc := "(I)I" } : Jvm.MethodName)) ∈ lw_all := lw_g (lw_at lw_m8 217 rfl) rfl
theorem q1980 : (Jvm.Cond.privateMethod ({ cls := "SeenInOrderOfAgeModel", name := "bringer", desc := "(I)I" } : Jvm.MethodName)) ∈ lw_tbl := lw_at lw_m8 218 rfl
theorem q1981 : (Jvm.Cond.instanceMethod ({ cls := "SeenInOrderOfAgeModel", name := "bringer", desc := "(I)I" } : Jvm.MethodName)) ∈ lw_all := lw_g (lw_at lw_m8 219 rfl) rfl
theorem q1982 : (Jvm.Cond.code ({ cls := "SeenInOrderOfAgeModel", name := "bringer", desc := "(I)I" } : Jvm.MethodName) prog_17_method_83_code (3 : Nat) (Option.some Jvm.ClassFile.FieldType.int)) ∈ lw_all := lw_g (lw_at lw_m8 220 rfl) rfl
theorem q1983 : (Jvm.Cond.methodLink "SeenInOrderOfAgeModel" (284 : Nat) ({ cls := "SeenInOrderOfAgeModel", name := "isRing", desc := "(I)Z" } : Jvm.MethodName)) ∈ lw_all := lw_g (lw_at lw_m8 221 rfl) rfl
theorem q1984 : (Jvm.Cond.privateMethod ({ cls := "SeenInOrderOfAgeModel", name := "isRing", desc := "(I)Z" } : Jvm.MethodName)) ∈ lw_tbl := lw_at lw_m8 222 rfl
theorem q1985 : (Jvm.Cond.instanceMethod ({ cls := "SeenInOrderOfAgeModel", name := "isRing", desc := "(I)Z" } : Jvm.MethodName)) ∈ lw_all := lw_g (lw_at lw_m8 223 rfl) rfl
theorem q1986 : (Jvm.Cond.code ({ cls := "SeenInOrderOfAgeModel", name := "isRing", desc := "(I)Z" } : Jvm.MethodName) prog_17_method_85_code (4 : Nat) (Option.some Jvm.ClassFile.FieldType.boolean)) ∈ lw_all := lw_g (lw_at lw_m8 224 rfl) rfl
theorem q1988 : (Jvm.Cond.instanceMethod ({ cls := "SeenInOrderOfAgeModel", name := "swapped", desc := "()I" } : Jvm.MethodName)) ∈ lw_all := lw_g (lw_at lw_m8 226 rfl) rfl
theorem q1989 : (Jvm.Cond.selects "SeenInOrderOfAgeModel" ({ cls := "SeenInOrderOfAgeModel", name := "swapped", desc := "()I" } : Jvm.MethodName) ({ cls := "SeenInOrderOfAgeModel", name := "swapped", desc := "()I" } : Jvm.MethodName)) ∈ lw_all := lw_g (lw_at lw_m8 227 rfl) rfl
theorem q1990 : (Jvm.Cond.code ({ cls := "SeenInOrderOfAgeModel", name := "swapped", desc := "()I" } : Jvm.MethodName) prog_17_method_89_code (1 : Nat) (Option.some Jvm.ClassFile.FieldType.int)) ∈ lw_all := lw_g (lw_at lw_m8 228 rfl) rfl
theorem q1991 : (Jvm.Cond.methodLink "SeenInOrderOfAgeModel" (290 : Nat) ({ cls := "SeenInOrderOfAgeModel", name := "others", desc := "()I" } : Jvm.MethodName)) ∈ lw_all := lw_g (lw_at lw_m8 229 rfl) rfl
theorem q1992 : (Jvm.Cond.privateMethod ({ cls := "SeenInOrderOfAgeModel", name := "others", desc := "()I" } : Jvm.MethodName)) ∈ lw_tbl := lw_at lw_m8 230 rfl
theorem q1993 : (Jvm.Cond.instanceMethod ({ cls := "SeenInOrderOfAgeModel", name := "others", desc := "()I" } : Jvm.MethodName)) ∈ lw_all := lw_g (lw_at lw_m8 231 rfl) rfl
theorem q1994 : (Jvm.Cond.code ({ cls := "SeenInOrderOfAgeModel", name := "others", desc := "()I" } : Jvm.MethodName) prog_17_method_88_code (3 : Nat) (Option.some Jvm.ClassFile.FieldType.int)) ∈ lw_all := lw_g (lw_at lw_m8 232 rfl) rfl
theorem q1996 : (Jvm.Cond.instanceMethod ({ cls := "SeenInOrderOfAgeModel", name := "judge", desc := "(II)I" } : Jvm.MethodName)) ∈ lw_all := lw_g (lw_at lw_m8 234 rfl) rfl
theorem q1997 : (Jvm.Cond.selects "SeenInOrderOfAgeModel" ({ cls := "SeenInOrderOfAgeModel", name := "judge", desc := "(II)I" } : Jvm.MethodName) ({ cls := "SeenInOrderOfAgeModel", name := "judge", desc := "(II)I" } : Jvm.MethodName)) ∈ lw_all := lw_g (lw_at lw_m8 235 rfl) rfl
theorem q1998 : (Jvm.Cond.code ({ cls := "SeenInOrderOfAgeModel", name := "judge", desc := "(II)I" } : Jvm.MethodName) prog_17_method_92_code (3 : Nat) (Option.some Jvm.ClassFile.FieldType.int)) ∈ lw_all := lw_g (lw_at lw_m8 236 rfl) rfl
theorem q1999 : (Jvm.Cond.methodLink "SeenInOrderOfAgeModel" (296 : Nat) ({ cls := "SeenInOrderOfAgeModel", name := "wrong", desc := "(II)I" } : Jvm.MethodName)) ∈ lw_all := lw_g (lw_at lw_m8 237 rfl) rfl
theorem q2000 : (Jvm.Cond.privateMethod ({ cls := "SeenInOrderOfAgeModel", name := "wrong", desc := "(II)I" } : Jvm.MethodName)) ∈ lw_tbl := lw_at lw_m8 238 rfl
theorem q2001 : (Jvm.Cond.instanceMethod ({ cls := "SeenInOrderOfAgeModel", name := "wrong", desc := "(II)I" } : Jvm.MethodName)) ∈ lw_all := lw_g (lw_at lw_m8 239 rfl) rfl
theorem q2002 : (Jvm.Cond.code ({ cls := "SeenInOrderOfAgeModel", name := "wrong", desc := "(II)I" } : Jvm.MethodName) prog_17_method_91_code (5 : Nat) (Option.some Jvm.ClassFile.FieldType.int)) ∈ lw_all := lw_g (lw_at lw_m9 0 rfl) rfl
theorem q2003 : (Jvm.Cond.methodLink "SeenInOrderOfAgeModel" (293 : Nat) ({ cls := "SeenInOrderOfAgeModel", name := "toldAt", desc := "(II)J" } : Jvm.MethodName)) ∈ lw_all := lw_g (lw_at lw_m9 1 rfl) rfl
theorem q2004 : (Jvm.Cond.privateMethod ({ cls := "SeenInOrderOfAgeModel", name := "toldAt", desc := "(II)J" } : Jvm.MethodName)) ∈ lw_tbl := lw_at lw_m9 2 rfl
theorem q2005 : (Jvm.Cond.instanceMethod ({ cls := "SeenInOrderOfAgeModel", name := "toldAt", desc := "(II)J" } : Jvm.MethodName)) ∈ lw_all := lw_g (lw_at lw_m9 3 rfl) rfl
theorem q2006 : (Jvm.Cond.code ({ cls := "SeenInOrderOfAgeModel", name := "toldAt", desc := "(II)J" } : Jvm.MethodName) prog_17_method_90_code (3 : Nat) (Option.some Jvm.ClassFile.FieldType.long)) ∈ lw_all := lw_g (lw_at lw_m9 4 rfl) rfl
theorem q2008 : (Jvm.Cond.instanceMethod ({ cls := "SeenInOrderOfAgeModel", name := "evening", desc := "(I)I" } : Jvm.MethodName)) ∈ lw_all := lw_g (lw_at lw_m9 6 rfl) rfl
theorem q2009 : (Jvm.Cond.selects "SeenInOrderOfAgeModel" ({ cls := "SeenInOrderOfAgeModel", name := "evening", desc := "(I)I" } : Jvm.MethodName) ({ cls := "SeenInOrderOfAgeModel", name := "evening", desc := "(I)I" } : Jvm.MethodName)) ∈ lw_all := lw_g (lw_at lw_m9 7 rfl) rfl
theorem q2010 : (Jvm.Cond.code ({ cls := "SeenInOrderOfAgeModel", name := "evening", desc := "(I)I" } : Jvm.MethodName) prog_17_method_94_code (2 : Nat) (Option.some Jvm.ClassFile.FieldType.int)) ∈ lw_all := lw_g (lw_at lw_m9 8 rfl) rfl
theorem q2011 : (Jvm.Cond.methodLink "SeenInOrderOfAgeModel" (307 : Nat) ({ cls := "SeenInOrderOfAgeModel", name := "goes", desc := "(I)I" } : Jvm.MethodName)) ∈ lw_all := lw_g (lw_at lw_m9 9 rfl) rfl
theorem q2012 : (Jvm.Cond.privateMethod ({ cls := "SeenInOrderOfAgeModel", name := "goes", desc := "(I)I" } : Jvm.MethodName)) ∈ lw_tbl := lw_at lw_m9 10 rfl
theorem q2013 : (Jvm.Cond.instanceMethod ({ cls := "SeenInOrderOfAgeModel", name := "goes", desc := "(I)I" } : Jvm.MethodName)) ∈ lw_all := lw_g (lw_at lw_m9 11 rfl) rfl
theorem q2014 : (Jvm.Cond.code ({ cls := "SeenInOrderOfAgeModel", name := "goes", desc := "(I)I" } : Jvm.MethodName) prog_17_method_93_code (5 : Nat) (Option.some Jvm.ClassFile.FieldType.int)) ∈ lw_all := lw_g (lw_at lw_m9 12 rfl) rfl
theorem q2015 : (Jvm.Cond.methodLink "SeenInOrderOfAgeModel" (299 : Nat) ({ cls := "java/lang/Math", name := "min", desc := "(II)I" } : Jvm.MethodName)) ∈ lw_all := lw_g (lw_at lw_m9 13 rfl) rfl
theorem q2017 : (Jvm.Cond.instanceMethod ({ cls := "SeenInOrderOfAgeModel", name := "swap", desc := "()I" } : Jvm.MethodName)) ∈ lw_all := lw_g (lw_at lw_m9 15 rfl) rfl
theorem q2018 : (Jvm.Cond.selects "SeenInOrderOfAgeModel" ({ cls := "SeenInOrderOfAgeModel", name := "swap", desc := "()I" } : Jvm.MethodName) ({ cls := "SeenInOrderOfAgeModel", name := "swap", desc := "()I" } : Jvm.MethodName)) ∈ lw_all := lw_g (lw_at lw_m9 16 rfl) rfl
theorem q2019 : (Jvm.Cond.code ({ cls := "SeenInOrderOfAgeModel", name := "swap", desc := "()I" } : Jvm.MethodName) prog_17_method_95_code (3 : Nat) (Option.some Jvm.ClassFile.FieldType.int)) ∈ lw_all := lw_g (lw_at lw_m9 17 rfl) rfl
theorem q2020 : (Jvm.Cond.methodLink "SeenInOrderOfAgeModel" (310 : Nat) ({ cls := "java/lang/Math", name := "max", desc := "(II)I" } : Jvm.MethodName)) ∈ lw_all := lw_g (lw_at lw_m9 18 rfl) rfl
theorem q2022 : (Jvm.Cond.instanceMethod ({ cls := "SeenInOrderOfAgeModel", name := "christmases", desc := "(I)I" } : Jvm.MethodName)) ∈ lw_all := lw_g (lw_at lw_m9 20 rfl) rfl
theorem q2023 : (Jvm.Cond.selects "SeenInOrderOfAgeModel" ({ cls := "SeenInOrderOfAgeModel", name := "christmases", desc := "(I)I" } : Jvm.MethodName) ({ cls := "SeenInOrderOfAgeModel", name := "christmases", desc := "(I)I" } : Jvm.MethodName)) ∈ lw_all := lw_g (lw_at lw_m9 21 rfl) rfl
theorem q2024 : (Jvm.Cond.code ({ cls := "SeenInOrderOfAgeModel", name := "christmases", desc := "(I)I" } : Jvm.MethodName) prog_17_method_97_code (6 : Nat) (Option.some Jvm.ClassFile.FieldType.int)) ∈ lw_all := lw_g (lw_at lw_m9 22 rfl) rfl
theorem q2025 : (Jvm.Cond.methodLink "SeenInOrderOfAgeModel" (314 : Nat) ({ cls := "SeenInOrderOfAgeModel", name := "draw", desc := "(I)I" } : Jvm.MethodName)) ∈ lw_all := lw_g (lw_at lw_m9 23 rfl) rfl
theorem q2026 : (Jvm.Cond.privateMethod ({ cls := "SeenInOrderOfAgeModel", name := "draw", desc := "(I)I" } : Jvm.MethodName)) ∈ lw_tbl := lw_at lw_m9 24 rfl
theorem q2027 : (Jvm.Cond.instanceMethod ({ cls := "SeenInOrderOfAgeModel", name := "draw", desc := "(I)I" } : Jvm.MethodName)) ∈ lw_all := lw_g (lw_at lw_m9 25 rfl) rfl
theorem q2028 : (Jvm.Cond.code ({ cls := "SeenInOrderOfAgeModel", name := "draw", desc := "(I)I" } : Jvm.MethodName) prog_17_method_96_code (2 : Nat) (Option.some Jvm.ClassFile.FieldType.int)) ∈ lw_all := lw_g (lw_at lw_m9 26 rfl) rfl
theorem q2029 : (Jvm.Cond.constant "SeenInOrderOfAgeModel" (313 : Nat) (1103515245 : Int32)) ∈ lw_all := lw_g (lw_at lw_m9 27 rfl) rfl
theorem q2031 : (Jvm.Cond.instanceMethod ({ cls := "SeenInOrderOfAgeModel", name := "seed", desc := "(I)I" } : Jvm.MethodName)) ∈ lw_all := lw_g (lw_at lw_m9 29 rfl) rfl
theorem q2032 : (Jvm.Cond.selects "SeenInOrderOfAgeModel" ({ cls := "SeenInOrderOfAgeModel", name := "seed", desc := "(I)I" } : Jvm.MethodName) ({ cls := "SeenInOrderOfAgeModel", name := "seed", desc := "(I)I" } : Jvm.MethodName)) ∈ lw_all := lw_g (lw_at lw_m9 30 rfl) rfl
theorem q2033 : (Jvm.Cond.code ({ cls := "SeenInOrderOfAgeModel", name := "seed", desc := "(I)I" } : Jvm.MethodName) prog_17_method_98_code (3 : Nat) (Option.some Jvm.ClassFile.FieldType.int)) ∈ lw_all := lw_g (lw_at lw_m9 31 rfl) rfl
theorem q2035 : (Jvm.Cond.instanceMethod ({ cls := "SeenInOrderOfAgeModel", name := "image", desc := "()I" } : Jvm.MethodName)) ∈ lw_all := lw_g (lw_at lw_m9 33 rfl) rfl
theorem q2036 : (Jvm.Cond.selects "SeenInOrderOfAgeModel" ({ cls := "SeenInOrderOfAgeModel", name := "image", desc := "()I" } : Jvm.MethodName) ({ cls := "SeenInOrderOfAgeModel", name := "image", desc := "()I" } : Jvm.MethodName)) ∈ lw_all := lw_g (lw_at lw_m9 34 rfl) rfl
theorem q2037 : (Jvm.Cond.code ({ cls := "SeenInOrderOfAgeModel", name := "image", desc := "()I" } : Jvm.MethodName) prog_17_method_101_code (1 : Nat) (Option.some Jvm.ClassFile.FieldType.int)) ∈ lw_all := lw_g (lw_at lw_m9 35 rfl) rfl
theorem q2039 : (Jvm.Cond.instanceMethod ({ cls := "SeenInOrderOfAgeModel", name := "back", desc := "()I" } : Jvm.MethodName)) ∈ lw_all := lw_g (lw_at lw_m9 37 rfl) rfl
theorem q2040 : (Jvm.Cond.selects "SeenInOrderOfAgeModel" ({ cls := "SeenInOrderOfAgeModel", name := "back", desc := "()I" } : Jvm.MethodName) ({ cls := "SeenInOrderOfAgeModel", name := "back", desc := "()I" } : Jvm.MethodName)) ∈ lw_all := lw_g (lw_at lw_m9 38 rfl) rfl
theorem q2041 : (Jvm.Cond.code ({ cls := "SeenInOrderOfAgeModel", name := "back", desc := "()I" } : Jvm.MethodName) prog_17_method_102_code (2 : Nat) (Option.some Jvm.ClassFile.FieldType.int)) ∈ lw_all := lw_g (lw_at lw_m9 39 rfl) rfl
theorem q2043 : (Jvm.Cond.instanceMethod ({ cls := "SeenInOrderOfAgeModel", name := "status", desc := "(I)I" } : Jvm.MethodName)) ∈ lw_all := lw_g (lw_at lw_m9 41 rfl) rfl
theorem q2044 : (Jvm.Cond.selects "SeenInOrderOfAgeModel" ({ cls := "SeenInOrderOfAgeModel", name := "status", desc := "(I)I" } : Jvm.MethodName) ({ cls := "SeenInOrderOfAgeModel", name := "status", desc := "(I)I" } : Jvm.MethodName)) ∈ lw_all := lw_g (lw_at lw_m9 42 rfl) rfl
theorem q2045 : (Jvm.Cond.code ({ cls := "SeenInOrderOfAgeModel", name := "status", desc := "(I)I" } : Jvm.MethodName) prog_17_method_103_code (4 : Nat) (Option.some Jvm.ClassFile.FieldType.int)) ∈ lw_all := lw_g (lw_at lw_m9 43 rfl) rfl

