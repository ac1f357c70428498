/-! WALKS OF THE COMPONENT: bodies taken -/
theorem s_X16_13 : xcp RX16 13 yX15_isUnder cX15_isUnder 2 (some .boolean) 1 := ⟨lw_app (a := [.methodLink RX16 13 yX15_isUnder, .sameMethod RX15 RX15 "isUnder" "(I)Z", .superclass RX16 RX15, .instanceMethod yX15_isUnder, .initialized RX15]) (List.forall_mem_cons.mpr ⟨q1618, List.forall_mem_cons.mpr ⟨q1614, List.forall_mem_cons.mpr ⟨q1125, List.forall_mem_cons.mpr ⟨q1612, List.forall_mem_cons.mpr ⟨q129, fun w h => absurd h List.not_mem_nil⟩⟩⟩⟩⟩) (lw_meth q1619), by decide +kernel, by decide +kernel⟩
theorem s_X17_13 : xcp RX17 13 yX15_isUnder cX15_isUnder 2 (some .boolean) 1 := ⟨lw_app (a := [.methodLink RX17 13 yX15_isUnder, .sameMethod RX15 RX15 "isUnder" "(I)Z", .superclass RX17 RX15, .instanceMethod yX15_isUnder, .initialized RX15]) (List.forall_mem_cons.mpr ⟨q1626, List.forall_mem_cons.mpr ⟨q1614, List.forall_mem_cons.mpr ⟨q1137, List.forall_mem_cons.mpr ⟨q1612, List.forall_mem_cons.mpr ⟨q129, fun w h => absurd h List.not_mem_nil⟩⟩⟩⟩⟩) (lw_meth q1619), by decide +kernel, by decide +kernel⟩
theorem s_X21_13 : xcp RX21 13 yX15_isUnder cX15_isUnder 2 (some .boolean) 1 := ⟨lw_app (a := [.methodLink RX21 13 yX15_isUnder, .sameMethod RX15 RX15 "isUnder" "(I)Z", .superclass RX21 RX15, .instanceMethod yX15_isUnder, .initialized RX15]) (List.forall_mem_cons.mpr ⟨q1634, List.forall_mem_cons.mpr ⟨q1614, List.forall_mem_cons.mpr ⟨q1189, List.forall_mem_cons.mpr ⟨q1612, List.forall_mem_cons.mpr ⟨q129, fun w h => absurd h List.not_mem_nil⟩⟩⟩⟩⟩) (lw_meth q1619), by decide +kernel, by decide +kernel⟩
theorem s_X18_13 : xcp RX18 13 yX17_isUnder cX17_isUnder 2 (some .boolean) 1 := ⟨lw_app (a := [.methodLink RX18 13 yX17_isUnder, .sameMethod RX17 RX17 "isUnder" "(I)Z", .superclass RX18 RX17, .instanceMethod yX17_isUnder, .initialized RX17]) (List.forall_mem_cons.mpr ⟨q1623, List.forall_mem_cons.mpr ⟨q2253, List.forall_mem_cons.mpr ⟨q1150, List.forall_mem_cons.mpr ⟨q1624, List.forall_mem_cons.mpr ⟨q131, fun w h => absurd h List.not_mem_nil⟩⟩⟩⟩⟩) (lw_meth q1625), by decide +kernel, by decide +kernel⟩
theorem s_X19_13 : xcp RX19 13 yX16_isUnder cX16_isUnder 2 (some .boolean) 1 := ⟨lw_app (a := [.methodLink RX19 13 yX16_isUnder, .sameMethod RX16 RX16 "isUnder" "(I)Z", .superclass RX19 RX16, .instanceMethod yX16_isUnder, .initialized RX16]) (List.forall_mem_cons.mpr ⟨q1642, List.forall_mem_cons.mpr ⟨q2256, List.forall_mem_cons.mpr ⟨q1163, List.forall_mem_cons.mpr ⟨q1616, List.forall_mem_cons.mpr ⟨q130, fun w h => absurd h List.not_mem_nil⟩⟩⟩⟩⟩) (lw_meth q1617), by decide +kernel, by decide +kernel⟩
theorem s_X20_13 : xcp RX20 13 yX18_isUnder cX18_isUnder 2 (some .boolean) 1 := ⟨lw_app (a := [.methodLink RX20 13 yX18_isUnder, .sameMethod RX18 RX18 "isUnder" "(I)Z", .superclass RX20 RX18, .instanceMethod yX18_isUnder, .initialized RX18]) (List.forall_mem_cons.mpr ⟨q1630, List.forall_mem_cons.mpr ⟨q2254, List.forall_mem_cons.mpr ⟨q1177, List.forall_mem_cons.mpr ⟨q1621, List.forall_mem_cons.mpr ⟨q132, fun w h => absurd h List.not_mem_nil⟩⟩⟩⟩⟩) (lw_meth q1622), by decide +kernel, by decide +kernel⟩
theorem s_X22_13 : xcp RX22 13 yX19_isUnder cX19_isUnder 2 (some .boolean) 1 := ⟨lw_app (a := [.methodLink RX22 13 yX19_isUnder, .sameMethod RX19 RX19 "isUnder" "(I)Z", .superclass RX22 RX19, .instanceMethod yX19_isUnder, .initialized RX19]) (List.forall_mem_cons.mpr ⟨q1639, List.forall_mem_cons.mpr ⟨q2255, List.forall_mem_cons.mpr ⟨q1203, List.forall_mem_cons.mpr ⟨q1640, List.forall_mem_cons.mpr ⟨q133, fun w h => absurd h List.not_mem_nil⟩⟩⟩⟩⟩) (lw_meth q1641), by decide +kernel, by decide +kernel⟩
theorem u_X0_513_X15 : xcu RX0 513 15 "ThirdAfter$Latch" ⟨"ThirdAfter$Latch", "isUnder", "(I)Z"⟩ yX15_isUnder cX15_isUnder 2 (some .boolean) 1 := ⟨_, _, _, rfl, lw_app (a := [.methodLink RX0 513 ⟨"ThirdAfter$Latch", "isUnder", "(I)Z"⟩, .sameMethod "ThirdAfter$Latch" "ThirdAfter$Latch" "isUnder" "(I)Z", .selects RX15 ⟨"ThirdAfter$Latch", "isUnder", "(I)Z"⟩ yX15_isUnder, .instanceMethod yX15_isUnder, .initialized RX15]) (List.forall_mem_cons.mpr ⟨q1611, List.forall_mem_cons.mpr ⟨q1614, List.forall_mem_cons.mpr ⟨q1613, List.forall_mem_cons.mpr ⟨q1612, List.forall_mem_cons.mpr ⟨q129, fun w h => absurd h List.not_mem_nil⟩⟩⟩⟩⟩) (lw_meth q1619), by decide +kernel, by decide +kernel, by decide +kernel, Or.inl rfl⟩
theorem u_X0_516_X15 : xcu RX0 516 15 "ThirdAfter$Latch" ⟨"ThirdAfter$Latch", "kind", "()I"⟩ yX15_kind cX15_kind 1 (some .int) 0 := ⟨_, _, _, rfl, lw_app (a := [.methodLink RX0 516 ⟨"ThirdAfter$Latch", "kind", "()I"⟩, .sameMethod "ThirdAfter$Latch" "ThirdAfter$Latch" "kind" "()I", .selects RX15 ⟨"ThirdAfter$Latch", "kind", "()I"⟩ yX15_kind, .instanceMethod yX15_kind, .initialized RX15]) (List.forall_mem_cons.mpr ⟨q1644, List.forall_mem_cons.mpr ⟨q1647, List.forall_mem_cons.mpr ⟨q1646, List.forall_mem_cons.mpr ⟨q1645, List.forall_mem_cons.mpr ⟨q129, fun w h => absurd h List.not_mem_nil⟩⟩⟩⟩⟩) (lw_meth q1669), by decide +kernel, by decide +kernel, by decide +kernel, Or.inl rfl⟩
theorem u_X0_513_X16 : xcu RX0 513 16 "ThirdAfter$Latch" ⟨"ThirdAfter$Latch", "isUnder", "(I)Z"⟩ yX16_isUnder cX16_isUnder 2 (some .boolean) 1 := ⟨_, _, _, rfl, lw_app (a := [.methodLink RX0 513 ⟨"ThirdAfter$Latch", "isUnder", "(I)Z"⟩, .sameMethod "ThirdAfter$Latch" "ThirdAfter$Latch" "isUnder" "(I)Z", .selects RX16 ⟨"ThirdAfter$Latch", "isUnder", "(I)Z"⟩ yX16_isUnder, .instanceMethod yX16_isUnder, .initialized RX16]) (List.forall_mem_cons.mpr ⟨q1611, List.forall_mem_cons.mpr ⟨q1614, List.forall_mem_cons.mpr ⟨q1615, List.forall_mem_cons.mpr ⟨q1616, List.forall_mem_cons.mpr ⟨q130, fun w h => absurd h List.not_mem_nil⟩⟩⟩⟩⟩) (lw_meth q1617), by decide +kernel, by decide +kernel, by decide +kernel, Or.inr (Or.inl ⟨q1612, _, _, _, q1619⟩)⟩
theorem u_X0_516_X16 : xcu RX0 516 16 "ThirdAfter$Latch" ⟨"ThirdAfter$Latch", "kind", "()I"⟩ yX16_kind cX16_kind 1 (some .int) 0 := ⟨_, _, _, rfl, lw_app (a := [.methodLink RX0 516 ⟨"ThirdAfter$Latch", "kind", "()I"⟩, .sameMethod "ThirdAfter$Latch" "ThirdAfter$Latch" "kind" "()I", .selects RX16 ⟨"ThirdAfter$Latch", "kind", "()I"⟩ yX16_kind, .instanceMethod yX16_kind, .initialized RX16]) (List.forall_mem_cons.mpr ⟨q1644, List.forall_mem_cons.mpr ⟨q1647, List.forall_mem_cons.mpr ⟨q1648, List.forall_mem_cons.mpr ⟨q1649, List.forall_mem_cons.mpr ⟨q130, fun w h => absurd h List.not_mem_nil⟩⟩⟩⟩⟩) (lw_meth q1650), by decide +kernel, by decide +kernel, by decide +kernel, Or.inr (Or.inl ⟨q1645, _, _, _, q1669⟩)⟩
theorem u_X0_513_X17 : xcu RX0 513 17 "ThirdAfter$Latch" ⟨"ThirdAfter$Latch", "isUnder", "(I)Z"⟩ yX17_isUnder cX17_isUnder 2 (some .boolean) 1 := ⟨_, _, _, rfl, lw_app (a := [.methodLink RX0 513 ⟨"ThirdAfter$Latch", "isUnder", "(I)Z"⟩, .sameMethod "ThirdAfter$Latch" "ThirdAfter$Latch" "isUnder" "(I)Z", .selects RX17 ⟨"ThirdAfter$Latch", "isUnder", "(I)Z"⟩ yX17_isUnder, .instanceMethod yX17_isUnder, .initialized RX17]) (List.forall_mem_cons.mpr ⟨q1611, List.forall_mem_cons.mpr ⟨q1614, List.forall_mem_cons.mpr ⟨q1635, List.forall_mem_cons.mpr ⟨q1624, List.forall_mem_cons.mpr ⟨q131, fun w h => absurd h List.not_mem_nil⟩⟩⟩⟩⟩) (lw_meth q1625), by decide +kernel, by decide +kernel, by decide +kernel, Or.inr (Or.inl ⟨q1612, _, _, _, q1619⟩)⟩
theorem u_X0_516_X17 : xcu RX0 516 17 "ThirdAfter$Latch" ⟨"ThirdAfter$Latch", "kind", "()I"⟩ yX17_kind cX17_kind 1 (some .int) 0 := ⟨_, _, _, rfl, lw_app (a := [.methodLink RX0 516 ⟨"ThirdAfter$Latch", "kind", "()I"⟩, .sameMethod "ThirdAfter$Latch" "ThirdAfter$Latch" "kind" "()I", .selects RX17 ⟨"ThirdAfter$Latch", "kind", "()I"⟩ yX17_kind, .instanceMethod yX17_kind, .initialized RX17]) (List.forall_mem_cons.mpr ⟨q1644, List.forall_mem_cons.mpr ⟨q1647, List.forall_mem_cons.mpr ⟨q1660, List.forall_mem_cons.mpr ⟨q1661, List.forall_mem_cons.mpr ⟨q131, fun w h => absurd h List.not_mem_nil⟩⟩⟩⟩⟩) (lw_meth q1662), by decide +kernel, by decide +kernel, by decide +kernel, Or.inr (Or.inl ⟨q1645, _, _, _, q1669⟩)⟩
theorem u_X0_513_X18 : xcu RX0 513 18 "ThirdAfter$Latch" ⟨"ThirdAfter$Latch", "isUnder", "(I)Z"⟩ yX18_isUnder cX18_isUnder 2 (some .boolean) 1 := ⟨_, _, _, rfl, lw_app (a := [.methodLink RX0 513 ⟨"ThirdAfter$Latch", "isUnder", "(I)Z"⟩, .sameMethod "ThirdAfter$Latch" "ThirdAfter$Latch" "isUnder" "(I)Z", .selects RX18 ⟨"ThirdAfter$Latch", "isUnder", "(I)Z"⟩ yX18_isUnder, .instanceMethod yX18_isUnder, .initialized RX18]) (List.forall_mem_cons.mpr ⟨q1611, List.forall_mem_cons.mpr ⟨q1614, List.forall_mem_cons.mpr ⟨q1620, List.forall_mem_cons.mpr ⟨q1621, List.forall_mem_cons.mpr ⟨q132, fun w h => absurd h List.not_mem_nil⟩⟩⟩⟩⟩) (lw_meth q1622), by decide +kernel, by decide +kernel, by decide +kernel, Or.inr (Or.inl ⟨q1612, _, _, _, q1619⟩)⟩
theorem u_X0_516_X18 : xcu RX0 516 18 "ThirdAfter$Latch" ⟨"ThirdAfter$Latch", "kind", "()I"⟩ yX18_kind cX18_kind 1 (some .int) 0 := ⟨_, _, _, rfl, lw_app (a := [.methodLink RX0 516 ⟨"ThirdAfter$Latch", "kind", "()I"⟩, .sameMethod "ThirdAfter$Latch" "ThirdAfter$Latch" "kind" "()I", .selects RX18 ⟨"ThirdAfter$Latch", "kind", "()I"⟩ yX18_kind, .instanceMethod yX18_kind, .initialized RX18]) (List.forall_mem_cons.mpr ⟨q1644, List.forall_mem_cons.mpr ⟨q1647, List.forall_mem_cons.mpr ⟨q1651, List.forall_mem_cons.mpr ⟨q1652, List.forall_mem_cons.mpr ⟨q132, fun w h => absurd h List.not_mem_nil⟩⟩⟩⟩⟩) (lw_meth q1653), by decide +kernel, by decide +kernel, by decide +kernel, Or.inr (Or.inl ⟨q1645, _, _, _, q1669⟩)⟩
theorem u_X0_513_X19 : xcu RX0 513 19 "ThirdAfter$Latch" ⟨"ThirdAfter$Latch", "isUnder", "(I)Z"⟩ yX19_isUnder cX19_isUnder 2 (some .boolean) 1 := ⟨_, _, _, rfl, lw_app (a := [.methodLink RX0 513 ⟨"ThirdAfter$Latch", "isUnder", "(I)Z"⟩, .sameMethod "ThirdAfter$Latch" "ThirdAfter$Latch" "isUnder" "(I)Z", .selects RX19 ⟨"ThirdAfter$Latch", "isUnder", "(I)Z"⟩ yX19_isUnder, .instanceMethod yX19_isUnder, .initialized RX19]) (List.forall_mem_cons.mpr ⟨q1611, List.forall_mem_cons.mpr ⟨q1614, List.forall_mem_cons.mpr ⟨q1643, List.forall_mem_cons.mpr ⟨q1640, List.forall_mem_cons.mpr ⟨q133, fun w h => absurd h List.not_mem_nil⟩⟩⟩⟩⟩) (lw_meth q1641), by decide +kernel, by decide +kernel, by decide +kernel, Or.inr (Or.inl ⟨q1612, _, _, _, q1619⟩)⟩
theorem u_X0_516_X19 : xcu RX0 516 19 "ThirdAfter$Latch" ⟨"ThirdAfter$Latch", "kind", "()I"⟩ yX19_kind cX19_kind 1 (some .int) 0 := ⟨_, _, _, rfl, lw_app (a := [.methodLink RX0 516 ⟨"ThirdAfter$Latch", "kind", "()I"⟩, .sameMethod "ThirdAfter$Latch" "ThirdAfter$Latch" "kind" "()I", .selects RX19 ⟨"ThirdAfter$Latch", "kind", "()I"⟩ yX19_kind, .instanceMethod yX19_kind, .initialized RX19]) (List.forall_mem_cons.mpr ⟨q1644, List.forall_mem_cons.mpr ⟨q1647, List.forall_mem_cons.mpr ⟨q1666, List.forall_mem_cons.mpr ⟨q1667, List.forall_mem_cons.mpr ⟨q133, fun w h => absurd h List.not_mem_nil⟩⟩⟩⟩⟩) (lw_meth q1668), by decide +kernel, by decide +kernel, by decide +kernel, Or.inr (Or.inl ⟨q1645, _, _, _, q1669⟩)⟩
theorem u_X0_513_X20 : xcu RX0 513 20 "ThirdAfter$Latch" ⟨"ThirdAfter$Latch", "isUnder", "(I)Z"⟩ yX20_isUnder cX20_isUnder 2 (some .boolean) 1 := ⟨_, _, _, rfl, lw_app (a := [.methodLink RX0 513 ⟨"ThirdAfter$Latch", "isUnder", "(I)Z"⟩, .sameMethod "ThirdAfter$Latch" "ThirdAfter$Latch" "isUnder" "(I)Z", .selects RX20 ⟨"ThirdAfter$Latch", "isUnder", "(I)Z"⟩ yX20_isUnder, .instanceMethod yX20_isUnder, .initialized RX20]) (List.forall_mem_cons.mpr ⟨q1611, List.forall_mem_cons.mpr ⟨q1614, List.forall_mem_cons.mpr ⟨q1627, List.forall_mem_cons.mpr ⟨q1628, List.forall_mem_cons.mpr ⟨q134, fun w h => absurd h List.not_mem_nil⟩⟩⟩⟩⟩) (lw_meth q1629), by decide +kernel, by decide +kernel, by decide +kernel, Or.inr (Or.inl ⟨q1612, _, _, _, q1619⟩)⟩
theorem u_X0_516_X20 : xcu RX0 516 20 "ThirdAfter$Latch" ⟨"ThirdAfter$Latch", "kind", "()I"⟩ yX20_kind cX20_kind 1 (some .int) 0 := ⟨_, _, _, rfl, lw_app (a := [.methodLink RX0 516 ⟨"ThirdAfter$Latch", "kind", "()I"⟩, .sameMethod "ThirdAfter$Latch" "ThirdAfter$Latch" "kind" "()I", .selects RX20 ⟨"ThirdAfter$Latch", "kind", "()I"⟩ yX20_kind, .instanceMethod yX20_kind, .initialized RX20]) (List.forall_mem_cons.mpr ⟨q1644, List.forall_mem_cons.mpr ⟨q1647, List.forall_mem_cons.mpr ⟨q1654, List.forall_mem_cons.mpr ⟨q1655, List.forall_mem_cons.mpr ⟨q134, fun w h => absurd h List.not_mem_nil⟩⟩⟩⟩⟩) (lw_meth q1656), by decide +kernel, by decide +kernel, by decide +kernel, Or.inr (Or.inl ⟨q1645, _, _, _, q1669⟩)⟩
theorem u_X0_513_X21 : xcu RX0 513 21 "ThirdAfter$Latch" ⟨"ThirdAfter$Latch", "isUnder", "(I)Z"⟩ yX21_isUnder cX21_isUnder 2 (some .boolean) 1 := ⟨_, _, _, rfl, lw_app (a := [.methodLink RX0 513 ⟨"ThirdAfter$Latch", "isUnder", "(I)Z"⟩, .sameMethod "ThirdAfter$Latch" "ThirdAfter$Latch" "isUnder" "(I)Z", .selects RX21 ⟨"ThirdAfter$Latch", "isUnder", "(I)Z"⟩ yX21_isUnder, .instanceMethod yX21_isUnder, .initialized RX21]) (List.forall_mem_cons.mpr ⟨q1611, List.forall_mem_cons.mpr ⟨q1614, List.forall_mem_cons.mpr ⟨q1631, List.forall_mem_cons.mpr ⟨q1632, List.forall_mem_cons.mpr ⟨q135, fun w h => absurd h List.not_mem_nil⟩⟩⟩⟩⟩) (lw_meth q1633), by decide +kernel, by decide +kernel, by decide +kernel, Or.inr (Or.inl ⟨q1612, _, _, _, q1619⟩)⟩
theorem u_X0_516_X21 : xcu RX0 516 21 "ThirdAfter$Latch" ⟨"ThirdAfter$Latch", "kind", "()I"⟩ yX21_kind cX21_kind 1 (some .int) 0 := ⟨_, _, _, rfl, lw_app (a := [.methodLink RX0 516 ⟨"ThirdAfter$Latch", "kind", "()I"⟩, .sameMethod "ThirdAfter$Latch" "ThirdAfter$Latch" "kind" "()I", .selects RX21 ⟨"ThirdAfter$Latch", "kind", "()I"⟩ yX21_kind, .instanceMethod yX21_kind, .initialized RX21]) (List.forall_mem_cons.mpr ⟨q1644, List.forall_mem_cons.mpr ⟨q1647, List.forall_mem_cons.mpr ⟨q1657, List.forall_mem_cons.mpr ⟨q1658, List.forall_mem_cons.mpr ⟨q135, fun w h => absurd h List.not_mem_nil⟩⟩⟩⟩⟩) (lw_meth q1659), by decide +kernel, by decide +kernel, by decide +kernel, Or.inr (Or.inl ⟨q1645, _, _, _, q1669⟩)⟩
theorem u_X0_513_X22 : xcu RX0 513 22 "ThirdAfter$Latch" ⟨"ThirdAfter$Latch", "isUnder", "(I)Z"⟩ yX22_isUnder cX22_isUnder 2 (some .boolean) 1 := ⟨_, _, _, rfl, lw_app (a := [.methodLink RX0 513 ⟨"ThirdAfter$Latch", "isUnder", "(I)Z"⟩, .sameMethod "ThirdAfter$Latch" "ThirdAfter$Latch" "isUnder" "(I)Z", .selects RX22 ⟨"ThirdAfter$Latch", "isUnder", "(I)Z"⟩ yX22_isUnder, .instanceMethod yX22_isUnder, .initialized RX22]) (List.forall_mem_cons.mpr ⟨q1611, List.forall_mem_cons.mpr ⟨q1614, List.forall_mem_cons.mpr ⟨q1636, List.forall_mem_cons.mpr ⟨q1637, List.forall_mem_cons.mpr ⟨q136, fun w h => absurd h List.not_mem_nil⟩⟩⟩⟩⟩) (lw_meth q1638), by decide +kernel, by decide +kernel, by decide +kernel, Or.inr (Or.inl ⟨q1612, _, _, _, q1619⟩)⟩
theorem u_X0_516_X22 : xcu RX0 516 22 "ThirdAfter$Latch" ⟨"ThirdAfter$Latch", "kind", "()I"⟩ yX22_kind cX22_kind 1 (some .int) 0 := ⟨_, _, _, rfl, lw_app (a := [.methodLink RX0 516 ⟨"ThirdAfter$Latch", "kind", "()I"⟩, .sameMethod "ThirdAfter$Latch" "ThirdAfter$Latch" "kind" "()I", .selects RX22 ⟨"ThirdAfter$Latch", "kind", "()I"⟩ yX22_kind, .instanceMethod yX22_kind, .initialized RX22]) (List.forall_mem_cons.mpr ⟨q1644, List.forall_mem_cons.mpr ⟨q1647, List.forall_mem_cons.mpr ⟨q1663, List.forall_mem_cons.mpr ⟨q1664, List.forall_mem_cons.mpr ⟨q136, fun w h => absurd h List.not_mem_nil⟩⟩⟩⟩⟩) (lw_meth q1665), by decide +kernel, by decide +kernel, by decide +kernel, Or.inr (Or.inl ⟨q1645, _, _, _, q1669⟩)⟩
set_option maxHeartbeats 4000000 in
theorem k15_isUnder (l : Launch) (G : xG_T) (n : Nat) (Ty : Nat → xs_T) (F : xF_T) (hC : WC n Ty F) (I : xI_T) (L : xL_T) (q ci : Nat) (k : Int32) (hqn : q < n) (hqT : Ty q = some (.inl ci)) : CE l (0) yX15_isUnder cX15_isUnder 2 (some .boolean) G n Ty F [.ref (xb G + q), .int k] I L (some (.int (udr 0 k))) (I) := by
  refine Cg.intro (cls := RX15) (pad := 0) (lv := [some (.ref (xb G + q)), some (.int k)]) rfl (by decide) (Nat.le_of_ble_eq_true rfl) rfl (fun Θ h => ?_)
  refine x_iload_n h dX15_isUnder_0 rfl ?_
  refine x_if_ne h 8 dX15_isUnder_1 rfl (fun c1 => ?_) (fun c1 => ?_)
  · skip
    refine x_iconst h dX15_isUnder_8 (0) rfl ?_
    exact x_zret h dX15_isUnder_9 rfl rfl (xpE.to (by refine congrArg (fun z => some (Value.int z)) ?_; show _ = if k = 0 then 1 else 0; first | (rw [if_pos c1]; done) | (rw [if_neg c1]; done)) rfl rfl rfl)
  · skip
    refine x_iconst h dX15_isUnder_4 (1) rfl ?_
    refine x_goto h 9 dX15_isUnder_5 rfl ?_
    exact x_zret h dX15_isUnder_9 rfl rfl (xpE.to (by refine congrArg (fun z => some (Value.int z)) ?_; show _ = if k = 0 then 1 else 0; first | (rw [if_pos c1]; done) | (rw [if_neg c1]; done)) rfl rfl rfl)
set_option maxHeartbeats 4000000 in
theorem k15_kind (l : Launch) (G : xG_T) (n : Nat) (Ty : Nat → xs_T) (F : xF_T) (hC : WC n Ty F) (I : xI_T) (L : xL_T) (q : Nat)  : CE l (0) yX15_kind cX15_kind 1 (some .int) G n Ty F [.ref (xb G + q)] I L (some (.int (0))) (I) := by
  refine Cg.intro (cls := RX15) (pad := 0) (lv := [some (.ref (xb G + q))]) rfl (by decide) (Nat.le_of_ble_eq_true rfl) rfl (fun Θ h => ?_)
  refine x_iconst h dX15_kind_0 (0) rfl ?_
  exact x_iret h dX15_kind_1 rfl (xpE.to rfl rfl rfl rfl)
set_option maxHeartbeats 4000000 in
theorem k16_isUnder (l : Launch) (G : xG_T) (n : Nat) (Ty : Nat → xs_T) (F : xF_T) (hC : WC n Ty F) (I : xI_T) (L : xL_T) (q ci : Nat) (k : Int32) (hqn : q < n) (hqT : Ty q = some (.inl ci)) : CE l (1) yX16_isUnder cX16_isUnder 2 (some .boolean) G n Ty F [.ref (xb G + q), .int k] I L (some (.int (udr 1 k))) (I) := by
  refine Cg.intro (cls := RX16) (pad := 0) (lv := [some (.ref (xb G + q)), some (.int k)]) rfl (by decide) (Nat.le_of_ble_eq_true rfl) rfl (fun Θ h => ?_)
  refine x_iload_n h dX16_isUnder_0 rfl ?_
  refine x_iconst h dX16_isUnder_1 (1) rfl ?_
  refine x_icmp_eq h 13 dX16_isUnder_2 rfl (fun c2 => ?_) (fun c2 => ?_)
  · skip
    refine x_iconst h dX16_isUnder_13 (1) rfl ?_
    refine x_goto h 18 dX16_isUnder_14 rfl ?_
    exact x_zret h dX16_isUnder_18 rfl rfl (xpE.to (by refine congrArg (fun z => some (Value.int z)) ?_; show _ = if k = 1 then 1 else udr 0 k; first | (rw [if_pos c2]; done) | (rw [if_neg c2]; first | exact c10.symm | exact ((udr_01 0 k).resolve_left c10).symm)) rfl rfl rfl)
  · skip
    refine x_aload_n h dX16_isUnder_5 rfl ?_
    refine x_iload_n h dX16_isUnder_6 rfl ?_
    refine x_callPEi h (As := [.int _]) (k15_isUnder l G n Ty F hC I L q ci k hqn hqT) s_X16_13 hqn hqT dX16_isUnder_7 ⟨by decide, by decide⟩ ⟨by decide, by decide⟩ rfl (Nat.le_of_ble_eq_true rfl) ?_
    refine x_if_eq h 17 dX16_isUnder_10 rfl (fun c10 => ?_) (fun c10 => ?_)
    · skip
      refine x_iconst h dX16_isUnder_17 (0) rfl ?_
      exact x_zret h dX16_isUnder_18 rfl rfl (xpE.to (by refine congrArg (fun z => some (Value.int z)) ?_; show _ = if k = 1 then 1 else udr 0 k; first | (rw [if_pos c2]; done) | (rw [if_neg c2]; first | exact c10.symm | exact ((udr_01 0 k).resolve_left c10).symm)) rfl rfl rfl)
    · skip
      refine x_iconst h dX16_isUnder_13 (1) rfl ?_
      refine x_goto h 18 dX16_isUnder_14 rfl ?_
      exact x_zret h dX16_isUnder_18 rfl rfl (xpE.to (by refine congrArg (fun z => some (Value.int z)) ?_; show _ = if k = 1 then 1 else udr 0 k; first | (rw [if_pos c2]; done) | (rw [if_neg c2]; first | exact c10.symm | exact ((udr_01 0 k).resolve_left c10).symm)) rfl rfl rfl)
set_option maxHeartbeats 4000000 in
theorem k16_kind (l : Launch) (G : xG_T) (n : Nat) (Ty : Nat → xs_T) (F : xF_T) (hC : WC n Ty F) (I : xI_T) (L : xL_T) (q : Nat)  : CE l (0) yX16_kind cX16_kind 1 (some .int) G n Ty F [.ref (xb G + q)] I L (some (.int (1))) (I) := by
  refine Cg.intro (cls := RX16) (pad := 0) (lv := [some (.ref (xb G + q))]) rfl (by decide) (Nat.le_of_ble_eq_true rfl) rfl (fun Θ h => ?_)
  refine x_iconst h dX16_kind_0 (1) rfl ?_
  exact x_iret h dX16_kind_1 rfl (xpE.to rfl rfl rfl rfl)
set_option maxHeartbeats 4000000 in
theorem k17_isUnder (l : Launch) (G : xG_T) (n : Nat) (Ty : Nat → xs_T) (F : xF_T) (hC : WC n Ty F) (I : xI_T) (L : xL_T) (q ci : Nat) (k : Int32) (hqn : q < n) (hqT : Ty q = some (.inl ci)) : CE l (1) yX17_isUnder cX17_isUnder 2 (some .boolean) G n Ty F [.ref (xb G + q), .int k] I L (some (.int (udr 2 k))) (I) := by
  refine Cg.intro (cls := RX17) (pad := 0) (lv := [some (.ref (xb G + q)), some (.int k)]) rfl (by decide) (Nat.le_of_ble_eq_true rfl) rfl (fun Θ h => ?_)
  refine x_iload_n h dX17_isUnder_0 rfl ?_
  refine x_iconst h dX17_isUnder_1 (2) rfl ?_
  refine x_icmp_eq h 13 dX17_isUnder_2 rfl (fun c2 => ?_) (fun c2 => ?_)
  · skip
    refine x_iconst h dX17_isUnder_13 (1) rfl ?_
    refine x_goto h 18 dX17_isUnder_14 rfl ?_
    exact x_zret h dX17_isUnder_18 rfl rfl (xpE.to (by refine congrArg (fun z => some (Value.int z)) ?_; show _ = if k = 2 then 1 else udr 0 k; first | (rw [if_pos c2]; done) | (rw [if_neg c2]; first | exact c10.symm | exact ((udr_01 0 k).resolve_left c10).symm)) rfl rfl rfl)
  · skip
    refine x_aload_n h dX17_isUnder_5 rfl ?_
    refine x_iload_n h dX17_isUnder_6 rfl ?_
    refine x_callPEi h (As := [.int _]) (k15_isUnder l G n Ty F hC I L q ci k hqn hqT) s_X17_13 hqn hqT dX17_isUnder_7 ⟨by decide, by decide⟩ ⟨by decide, by decide⟩ rfl (Nat.le_of_ble_eq_true rfl) ?_
    refine x_if_eq h 17 dX17_isUnder_10 rfl (fun c10 => ?_) (fun c10 => ?_)
    · skip
      refine x_iconst h dX17_isUnder_17 (0) rfl ?_
      exact x_zret h dX17_isUnder_18 rfl rfl (xpE.to (by refine congrArg (fun z => some (Value.int z)) ?_; show _ = if k = 2 then 1 else udr 0 k; first | (rw [if_pos c2]; done) | (rw [if_neg c2]; first | exact c10.symm | exact ((udr_01 0 k).resolve_left c10).symm)) rfl rfl rfl)
    · skip
      refine x_iconst h dX17_isUnder_13 (1) rfl ?_
      refine x_goto h 18 dX17_isUnder_14 rfl ?_
      exact x_zret h dX17_isUnder_18 rfl rfl (xpE.to (by refine congrArg (fun z => some (Value.int z)) ?_; show _ = if k = 2 then 1 else udr 0 k; first | (rw [if_pos c2]; done) | (rw [if_neg c2]; first | exact c10.symm | exact ((udr_01 0 k).resolve_left c10).symm)) rfl rfl rfl)
set_option maxHeartbeats 4000000 in
theorem k17_kind (l : Launch) (G : xG_T) (n : Nat) (Ty : Nat → xs_T) (F : xF_T) (hC : WC n Ty F) (I : xI_T) (L : xL_T) (q : Nat)  : CE l (0) yX17_kind cX17_kind 1 (some .int) G n Ty F [.ref (xb G + q)] I L (some (.int (2))) (I) := by
  refine Cg.intro (cls := RX17) (pad := 0) (lv := [some (.ref (xb G + q))]) rfl (by decide) (Nat.le_of_ble_eq_true rfl) rfl (fun Θ h => ?_)
  refine x_iconst h dX17_kind_0 (2) rfl ?_
  exact x_iret h dX17_kind_1 rfl (xpE.to rfl rfl rfl rfl)
set_option maxHeartbeats 4000000 in
theorem k21_isUnder (l : Launch) (G : xG_T) (n : Nat) (Ty : Nat → xs_T) (F : xF_T) (hC : WC n Ty F) (I : xI_T) (L : xL_T) (q ci : Nat) (k : Int32) (hqn : q < n) (hqT : Ty q = some (.inl ci)) : CE l (1) yX21_isUnder cX21_isUnder 2 (some .boolean) G n Ty F [.ref (xb G + q), .int k] I L (some (.int (udr 6 k))) (I) := by
  refine Cg.intro (cls := RX21) (pad := 0) (lv := [some (.ref (xb G + q)), some (.int k)]) rfl (by decide) (Nat.le_of_ble_eq_true rfl) rfl (fun Θ h => ?_)
  refine x_iload_n h dX21_isUnder_0 rfl ?_
  refine x_bipush h dX21_isUnder_1 (6) rfl ?_
  refine x_icmp_eq h 14 dX21_isUnder_3 rfl (fun c3 => ?_) (fun c3 => ?_)
  · skip
    refine x_iconst h dX21_isUnder_14 (1) rfl ?_
    refine x_goto h 19 dX21_isUnder_15 rfl ?_
    exact x_zret h dX21_isUnder_19 rfl rfl (xpE.to (by refine congrArg (fun z => some (Value.int z)) ?_; show _ = if k = 6 then 1 else udr 0 k; first | (rw [if_pos c3]; done) | (rw [if_neg c3]; first | exact c11.symm | exact ((udr_01 0 k).resolve_left c11).symm)) rfl rfl rfl)
  · skip
    refine x_aload_n h dX21_isUnder_6 rfl ?_
    refine x_iload_n h dX21_isUnder_7 rfl ?_
    refine x_callPEi h (As := [.int _]) (k15_isUnder l G n Ty F hC I L q ci k hqn hqT) s_X21_13 hqn hqT dX21_isUnder_8 ⟨by decide, by decide⟩ ⟨by decide, by decide⟩ rfl (Nat.le_of_ble_eq_true rfl) ?_
    refine x_if_eq h 18 dX21_isUnder_11 rfl (fun c11 => ?_) (fun c11 => ?_)
    · skip
      refine x_iconst h dX21_isUnder_18 (0) rfl ?_
      exact x_zret h dX21_isUnder_19 rfl rfl (xpE.to (by refine congrArg (fun z => some (Value.int z)) ?_; show _ = if k = 6 then 1 else udr 0 k; first | (rw [if_pos c3]; done) | (rw [if_neg c3]; first | exact c11.symm | exact ((udr_01 0 k).resolve_left c11).symm)) rfl rfl rfl)
    · skip
      refine x_iconst h dX21_isUnder_14 (1) rfl ?_
      refine x_goto h 19 dX21_isUnder_15 rfl ?_
      exact x_zret h dX21_isUnder_19 rfl rfl (xpE.to (by refine congrArg (fun z => some (Value.int z)) ?_; show _ = if k = 6 then 1 else udr 0 k; first | (rw [if_pos c3]; done) | (rw [if_neg c3]; first | exact c11.symm | exact ((udr_01 0 k).resolve_left c11).symm)) rfl rfl rfl)
set_option maxHeartbeats 4000000 in
theorem k21_kind (l : Launch) (G : xG_T) (n : Nat) (Ty : Nat → xs_T) (F : xF_T) (hC : WC n Ty F) (I : xI_T) (L : xL_T) (q : Nat)  : CE l (0) yX21_kind cX21_kind 1 (some .int) G n Ty F [.ref (xb G + q)] I L (some (.int (6))) (I) := by
  refine Cg.intro (cls := RX21) (pad := 0) (lv := [some (.ref (xb G + q))]) rfl (by decide) (Nat.le_of_ble_eq_true rfl) rfl (fun Θ h => ?_)
  refine x_bipush h dX21_kind_0 (6) rfl ?_
  exact x_iret h dX21_kind_2 rfl (xpE.to rfl rfl rfl rfl)
set_option maxHeartbeats 4000000 in
theorem k18_isUnder (l : Launch) (G : xG_T) (n : Nat) (Ty : Nat → xs_T) (F : xF_T) (hC : WC n Ty F) (I : xI_T) (L : xL_T) (q ci : Nat) (k : Int32) (hqn : q < n) (hqT : Ty q = some (.inl ci)) : CE l (2) yX18_isUnder cX18_isUnder 2 (some .boolean) G n Ty F [.ref (xb G + q), .int k] I L (some (.int (udr 3 k))) (I) := by
  refine Cg.intro (cls := RX18) (pad := 0) (lv := [some (.ref (xb G + q)), some (.int k)]) rfl (by decide) (Nat.le_of_ble_eq_true rfl) rfl (fun Θ h => ?_)
  refine x_iload_n h dX18_isUnder_0 rfl ?_
  refine x_iconst h dX18_isUnder_1 (3) rfl ?_
  refine x_icmp_eq h 13 dX18_isUnder_2 rfl (fun c2 => ?_) (fun c2 => ?_)
  · skip
    refine x_iconst h dX18_isUnder_13 (1) rfl ?_
    refine x_goto h 18 dX18_isUnder_14 rfl ?_
    exact x_zret h dX18_isUnder_18 rfl rfl (xpE.to (by refine congrArg (fun z => some (Value.int z)) ?_; show _ = if k = 3 then 1 else udr 2 k; first | (rw [if_pos c2]; done) | (rw [if_neg c2]; first | exact c10.symm | exact ((udr_01 2 k).resolve_left c10).symm)) rfl rfl rfl)
  · skip
    refine x_aload_n h dX18_isUnder_5 rfl ?_
    refine x_iload_n h dX18_isUnder_6 rfl ?_
    refine x_callPEi h (As := [.int _]) (k17_isUnder l G n Ty F hC I L q ci k hqn hqT) s_X18_13 hqn hqT dX18_isUnder_7 ⟨by decide, by decide⟩ ⟨by decide, by decide⟩ rfl (Nat.le_of_ble_eq_true rfl) ?_
    refine x_if_eq h 17 dX18_isUnder_10 rfl (fun c10 => ?_) (fun c10 => ?_)
    · skip
      refine x_iconst h dX18_isUnder_17 (0) rfl ?_
      exact x_zret h dX18_isUnder_18 rfl rfl (xpE.to (by refine congrArg (fun z => some (Value.int z)) ?_; show _ = if k = 3 then 1 else udr 2 k; first | (rw [if_pos c2]; done) | (rw [if_neg c2]; first | exact c10.symm | exact ((udr_01 2 k).resolve_left c10).symm)) rfl rfl rfl)
    · skip
      refine x_iconst h dX18_isUnder_13 (1) rfl ?_
      refine x_goto h 18 dX18_isUnder_14 rfl ?_
      exact x_zret h dX18_isUnder_18 rfl rfl (xpE.to (by refine congrArg (fun z => some (Value.int z)) ?_; show _ = if k = 3 then 1 else udr 2 k; first | (rw [if_pos c2]; done) | (rw [if_neg c2]; first | exact c10.symm | exact ((udr_01 2 k).resolve_left c10).symm)) rfl rfl rfl)
set_option maxHeartbeats 4000000 in
theorem k18_kind (l : Launch) (G : xG_T) (n : Nat) (Ty : Nat → xs_T) (F : xF_T) (hC : WC n Ty F) (I : xI_T) (L : xL_T) (q : Nat)  : CE l (0) yX18_kind cX18_kind 1 (some .int) G n Ty F [.ref (xb G + q)] I L (some (.int (3))) (I) := by
  refine Cg.intro (cls := RX18) (pad := 0) (lv := [some (.ref (xb G + q))]) rfl (by decide) (Nat.le_of_ble_eq_true rfl) rfl (fun Θ h => ?_)
  refine x_iconst h dX18_kind_0 (3) rfl ?_
  exact x_iret h dX18_kind_1 rfl (xpE.to rfl rfl rfl rfl)
set_option maxHeartbeats 4000000 in
theorem k19_isUnder (l : Launch) (G : xG_T) (n : Nat) (Ty : Nat → xs_T) (F : xF_T) (hC : WC n Ty F) (I : xI_T) (L : xL_T) (q ci : Nat) (k : Int32) (hqn : q < n) (hqT : Ty q = some (.inl ci)) : CE l (2) yX19_isUnder cX19_isUnder 2 (some .boolean) G n Ty F [.ref (xb G + q), .int k] I L (some (.int (udr 4 k))) (I) := by
  refine Cg.intro (cls := RX19) (pad := 0) (lv := [some (.ref (xb G + q)), some (.int k)]) rfl (by decide) (Nat.le_of_ble_eq_true rfl) rfl (fun Θ h => ?_)
  refine x_iload_n h dX19_isUnder_0 rfl ?_
  refine x_iconst h dX19_isUnder_1 (4) rfl ?_
  refine x_icmp_eq h 13 dX19_isUnder_2 rfl (fun c2 => ?_) (fun c2 => ?_)
  · skip
    refine x_iconst h dX19_isUnder_13 (1) rfl ?_
    refine x_goto h 18 dX19_isUnder_14 rfl ?_
    exact x_zret h dX19_isUnder_18 rfl rfl (xpE.to (by refine congrArg (fun z => some (Value.int z)) ?_; show _ = if k = 4 then 1 else udr 1 k; first | (rw [if_pos c2]; done) | (rw [if_neg c2]; first | exact c10.symm | exact ((udr_01 1 k).resolve_left c10).symm)) rfl rfl rfl)
  · skip
    refine x_aload_n h dX19_isUnder_5 rfl ?_
    refine x_iload_n h dX19_isUnder_6 rfl ?_
    refine x_callPEi h (As := [.int _]) (k16_isUnder l G n Ty F hC I L q ci k hqn hqT) s_X19_13 hqn hqT dX19_isUnder_7 ⟨by decide, by decide⟩ ⟨by decide, by decide⟩ rfl (Nat.le_of_ble_eq_true rfl) ?_
    refine x_if_eq h 17 dX19_isUnder_10 rfl (fun c10 => ?_) (fun c10 => ?_)
    · skip
      refine x_iconst h dX19_isUnder_17 (0) rfl ?_
      exact x_zret h dX19_isUnder_18 rfl rfl (xpE.to (by refine congrArg (fun z => some (Value.int z)) ?_; show _ = if k = 4 then 1 else udr 1 k; first | (rw [if_pos c2]; done) | (rw [if_neg c2]; first | exact c10.symm | exact ((udr_01 1 k).resolve_left c10).symm)) rfl rfl rfl)
    · skip
      refine x_iconst h dX19_isUnder_13 (1) rfl ?_
      refine x_goto h 18 dX19_isUnder_14 rfl ?_
      exact x_zret h dX19_isUnder_18 rfl rfl (xpE.to (by refine congrArg (fun z => some (Value.int z)) ?_; show _ = if k = 4 then 1 else udr 1 k; first | (rw [if_pos c2]; done) | (rw [if_neg c2]; first | exact c10.symm | exact ((udr_01 1 k).resolve_left c10).symm)) rfl rfl rfl)
set_option maxHeartbeats 4000000 in
theorem k19_kind (l : Launch) (G : xG_T) (n : Nat) (Ty : Nat → xs_T) (F : xF_T) (hC : WC n Ty F) (I : xI_T) (L : xL_T) (q : Nat)  : CE l (0) yX19_kind cX19_kind 1 (some .int) G n Ty F [.ref (xb G + q)] I L (some (.int (4))) (I) := by
  refine Cg.intro (cls := RX19) (pad := 0) (lv := [some (.ref (xb G + q))]) rfl (by decide) (Nat.le_of_ble_eq_true rfl) rfl (fun Θ h => ?_)
  refine x_iconst h dX19_kind_0 (4) rfl ?_
  exact x_iret h dX19_kind_1 rfl (xpE.to rfl rfl rfl rfl)
set_option maxHeartbeats 4000000 in
theorem k20_isUnder (l : Launch) (G : xG_T) (n : Nat) (Ty : Nat → xs_T) (F : xF_T) (hC : WC n Ty F) (I : xI_T) (L : xL_T) (q ci : Nat) (k : Int32) (hqn : q < n) (hqT : Ty q = some (.inl ci)) : CE l (3) yX20_isUnder cX20_isUnder 2 (some .boolean) G n Ty F [.ref (xb G + q), .int k] I L (some (.int (udr 5 k))) (I) := by
  refine Cg.intro (cls := RX20) (pad := 0) (lv := [some (.ref (xb G + q)), some (.int k)]) rfl (by decide) (Nat.le_of_ble_eq_true rfl) rfl (fun Θ h => ?_)
  refine x_iload_n h dX20_isUnder_0 rfl ?_
  refine x_iconst h dX20_isUnder_1 (5) rfl ?_
  refine x_icmp_eq h 13 dX20_isUnder_2 rfl (fun c2 => ?_) (fun c2 => ?_)
  · skip
    refine x_iconst h dX20_isUnder_13 (1) rfl ?_
    refine x_goto h 18 dX20_isUnder_14 rfl ?_
    exact x_zret h dX20_isUnder_18 rfl rfl (xpE.to (by refine congrArg (fun z => some (Value.int z)) ?_; show _ = if k = 5 then 1 else udr 3 k; first | (rw [if_pos c2]; done) | (rw [if_neg c2]; first | exact c10.symm | exact ((udr_01 3 k).resolve_left c10).symm)) rfl rfl rfl)
  · skip
    refine x_aload_n h dX20_isUnder_5 rfl ?_
    refine x_iload_n h dX20_isUnder_6 rfl ?_
    refine x_callPEi h (As := [.int _]) (k18_isUnder l G n Ty F hC I L q ci k hqn hqT) s_X20_13 hqn hqT dX20_isUnder_7 ⟨by decide, by decide⟩ ⟨by decide, by decide⟩ rfl (Nat.le_of_ble_eq_true rfl) ?_
    refine x_if_eq h 17 dX20_isUnder_10 rfl (fun c10 => ?_) (fun c10 => ?_)
    · skip
      refine x_iconst h dX20_isUnder_17 (0) rfl ?_
      exact x_zret h dX20_isUnder_18 rfl rfl (xpE.to (by refine congrArg (fun z => some (Value.int z)) ?_; show _ = if k = 5 then 1 else udr 3 k; first | (rw [if_pos c2]; done) | (rw [if_neg c2]; first | exact c10.symm | exact ((udr_01 3 k).resolve_left c10).symm)) rfl rfl rfl)
    · skip
      refine x_iconst h dX20_isUnder_13 (1) rfl ?_
      refine x_goto h 18 dX20_isUnder_14 rfl ?_
      exact x_zret h dX20_isUnder_18 rfl rfl (xpE.to (by refine congrArg (fun z => some (Value.int z)) ?_; show _ = if k = 5 then 1 else udr 3 k; first | (rw [if_pos c2]; done) | (rw [if_neg c2]; first | exact c10.symm | exact ((udr_01 3 k).resolve_left c10).symm)) rfl rfl rfl)
set_option maxHeartbeats 4000000 in
theorem k20_kind (l : Launch) (G : xG_T) (n : Nat) (Ty : Nat → xs_T) (F : xF_T) (hC : WC n Ty F) (I : xI_T) (L : xL_T) (q : Nat)  : CE l (0) yX20_kind cX20_kind 1 (some .int) G n Ty F [.ref (xb G + q)] I L (some (.int (5))) (I) := by
  refine Cg.intro (cls := RX20) (pad := 0) (lv := [some (.ref (xb G + q))]) rfl (by decide) (Nat.le_of_ble_eq_true rfl) rfl (fun Θ h => ?_)
  refine x_iconst h dX20_kind_0 (5) rfl ?_
  exact x_iret h dX20_kind_1 rfl (xpE.to rfl rfl rfl rfl)
set_option maxHeartbeats 4000000 in
theorem k22_isUnder (l : Launch) (G : xG_T) (n : Nat) (Ty : Nat → xs_T) (F : xF_T) (hC : WC n Ty F) (I : xI_T) (L : xL_T) (q ci : Nat) (k : Int32) (hqn : q < n) (hqT : Ty q = some (.inl ci)) : CE l (3) yX22_isUnder cX22_isUnder 2 (some .boolean) G n Ty F [.ref (xb G + q), .int k] I L (some (.int (udr 7 k))) (I) := by
  refine Cg.intro (cls := RX22) (pad := 0) (lv := [some (.ref (xb G + q)), some (.int k)]) rfl (by decide) (Nat.le_of_ble_eq_true rfl) rfl (fun Θ h => ?_)
  refine x_iload_n h dX22_isUnder_0 rfl ?_
  refine x_bipush h dX22_isUnder_1 (7) rfl ?_
  refine x_icmp_eq h 14 dX22_isUnder_3 rfl (fun c3 => ?_) (fun c3 => ?_)
  · skip
    refine x_iconst h dX22_isUnder_14 (1) rfl ?_
    refine x_goto h 19 dX22_isUnder_15 rfl ?_
    exact x_zret h dX22_isUnder_19 rfl rfl (xpE.to (by refine congrArg (fun z => some (Value.int z)) ?_; show _ = if k = 7 then 1 else udr 4 k; first | (rw [if_pos c3]; done) | (rw [if_neg c3]; first | exact c11.symm | exact ((udr_01 4 k).resolve_left c11).symm)) rfl rfl rfl)
  · skip
    refine x_aload_n h dX22_isUnder_6 rfl ?_
    refine x_iload_n h dX22_isUnder_7 rfl ?_
    refine x_callPEi h (As := [.int _]) (k19_isUnder l G n Ty F hC I L q ci k hqn hqT) s_X22_13 hqn hqT dX22_isUnder_8 ⟨by decide, by decide⟩ ⟨by decide, by decide⟩ rfl (Nat.le_of_ble_eq_true rfl) ?_
    refine x_if_eq h 18 dX22_isUnder_11 rfl (fun c11 => ?_) (fun c11 => ?_)
    · skip
      refine x_iconst h dX22_isUnder_18 (0) rfl ?_
      exact x_zret h dX22_isUnder_19 rfl rfl (xpE.to (by refine congrArg (fun z => some (Value.int z)) ?_; show _ = if k = 7 then 1 else udr 4 k; first | (rw [if_pos c3]; done) | (rw [if_neg c3]; first | exact c11.symm | exact ((udr_01 4 k).resolve_left c11).symm)) rfl rfl rfl)
    · skip
      refine x_iconst h dX22_isUnder_14 (1) rfl ?_
      refine x_goto h 19 dX22_isUnder_15 rfl ?_
      exact x_zret h dX22_isUnder_19 rfl rfl (xpE.to (by refine congrArg (fun z => some (Value.int z)) ?_; show _ = if k = 7 then 1 else udr 4 k; first | (rw [if_pos c3]; done) | (rw [if_neg c3]; first | exact c11.symm | exact ((udr_01 4 k).resolve_left c11).symm)) rfl rfl rfl)
set_option maxHeartbeats 4000000 in
theorem k22_kind (l : Launch) (G : xG_T) (n : Nat) (Ty : Nat → xs_T) (F : xF_T) (hC : WC n Ty F) (I : xI_T) (L : xL_T) (q : Nat)  : CE l (0) yX22_kind cX22_kind 1 (some .int) G n Ty F [.ref (xb G + q)] I L (some (.int (7))) (I) := by
  refine Cg.intro (cls := RX22) (pad := 0) (lv := [some (.ref (xb G + q))]) rfl (by decide) (Nat.le_of_ble_eq_true rfl) rfl (fun Θ h => ?_)
  refine x_bipush h dX22_kind_0 (7) rfl ?_
  exact x_iret h dX22_kind_2 rfl (xpE.to rfl rfl rfl rfl)
set_option maxHeartbeats 4000000 in
theorem k0_taken (l : Launch) (hl : l.stackTraces = false) (G : xG_T) (n : Nat) (Ty : Nat → xs_T) (F : xF_T) (hC : WC n Ty F) (I : xI_T) (L : xL_T) (J : xI_T) (M : xL_T) (s k : Int32) (hT : TOP n Ty I L F J M) : CgW l 210 3 1010 yX0_taken cX0_taken 4 (some .int) [(19, 46, 47, 47), (19, 46, 51, 45)] G idC [.ref (xb G + 0), .int s, .int k] n Ty I L F (pT n Ty (.int (m_taken J s k)) (J) (M)) := by
  refine CgW.intro (cls := RX0) (pad := 1) (lv := [some (.ref (xb G + 0)), some (.int s), some (.int k), none]) rfl (by decide) (Nat.le_of_ble_eq_true rfl) rfl (fun Θ h hTb => ?_)
  refine x_iload_n h dX0_taken_0 rfl ?_
  refine x_callSEi h (As := [.int _]) (k0_isShelf l G n _ _ hC _ _ _ ) m_X0_29 dX0_taken_1 ⟨by decide, by decide⟩ ⟨by decide, by decide⟩ rfl (Nat.le_of_ble_eq_true rfl) ?_
  refine x_if_eq h 17 dX0_taken_4 rfl (fun c4 => ?_) (fun c4 => ?_)
  · skip
    have hm : m_taken J s k = -1 := by unfold m_taken; rw [if_pos c4]
    refine x_iconst h dX0_taken_17 (-1) rfl ?_
    refine x_wid h (by decide) (by decide) ?_
    exact x_iret h dX0_taken_18 rfl (by rw [hm]; exact ⟨rfl, grw.rf, hT⟩)
  · skip
    obtain ⟨s9, hs9, rfl⟩ := isB_s c4
    refine x_iload_n h dX0_taken_7 rfl ?_
    refine x_iconst h dX0_taken_8 (0) rfl ?_
    refine x_bipush h dX0_taken_9 (7) rfl ?_
    refine x_callSEi h (As := [.int _, .int _, .int _]) (k0_in l G n _ _ hC _ _ _ _ _ ) m_X0_7 dX0_taken_11 ⟨by decide, by decide⟩ ⟨by decide, by decide⟩ rfl (Nat.le_of_ble_eq_true rfl) ?_
    refine x_if_ne h 19 dX0_taken_14 rfl (fun c14 => ?_) (fun c14 => ?_)
    · skip
      refine x_aload_n h dX0_taken_19 rfl ?_
      refine x_getr h (j := 33) g_X0_32 (mlt hC.1 rfl) (hC.2.1 _ _ rfl) (by decide) (hC.2.2 _ _ _ rfl) dX0_taken_20 ?_
      refine x_iload_n h dX0_taken_23 rfl ?_
      rcases hT.bodies hs9 with ⟨hnul, h90⟩ | ⟨q, t, hq, hqn, hqT, ht5, h90⟩ | hbd | hbd | hbd | hbd | hbd | hbd | hbd | hbd
      · skip
        have hm : m_taken J (nI s9) k = -11 := by unfold m_taken; rw [if_neg c4, if_neg c14, ix_n (show s9 < 2147483648 by omega), if_pos h90]
        refine x_aaldn h (mlt hC.1 rfl) (hC.2.1 _ _ rfl) (by decide) rfl rfl (vp_in_nI hs9 (by decide)) (s9) (nI_clamp (by omega)) hnul dX0_taken_24 ?_
        refine x_castN h dX0_taken_25 ?_
        refine x_astore_nN h dX0_taken_28 rfl (by decide) [some (.ref (xb G + 0)), some (.int (nI s9)), some (.int k), some (.null)] rfl ?_
        refine x_aload_nN h dX0_taken_29 rfl ?_
        refine x_iload_n h dX0_taken_30 rfl ?_
        refine x_invN h (As := [.int _]) q1611 ⟨Or.inl ⟨_, _, _, _, q1612, q1619, q1613⟩, by decide, by decide⟩ (show Option.map (fun d => d.parameters.length) (parseMethodDescriptor "(I)Z") = some 1 from by decide +kernel) dX0_taken_31 (x_noteN h hl (by decide) ⟨by decide, by decide⟩ (Nat.le_of_ble_eq_true rfl) (fun n9 hn99 => XN.catch h hTb (pre := []) (x := ⟨19, 46, 47, 47⟩) (suf := _) rfl (fun z hz => absurd hz List.not_mem_nil) (by decide) (by decide) q269 q291 (fun a9 => ?_)))
        refine x_astore_n h dX0_taken_47 rfl (by decide) [some (.ref (xb G + 0)), some (.int (nI s9)), some (.int k), some (.ref a9)] rfl ?_
        refine x_bipush h dX0_taken_48 (-11) rfl ?_
        refine x_wid h (by decide) (by decide) ?_
        exact x_iret h dX0_taken_50 rfl (by rw [hm]; exact ⟨rfl, grw.xt hn99, hT.gr hn99⟩)
      · skip
        obtain ⟨C9, T9, N9, hcl9, hp9⟩ := nolatch ht5
        have hm : m_taken J (nI s9) k = -12 := by unfold m_taken; rw [if_neg c4, if_neg c14, ix_n (show s9 < 2147483648 by omega), h90, if_neg (nI_m9 (by omega)), if_pos ((isRow_t hs9 h90 (by omega)).mpr ht5)]
        refine x_aaldr h (q := q) (mlt hC.1 rfl) (hC.2.1 _ _ rfl) (by decide) rfl rfl (vp_in_nI hs9 (by decide)) (s9) (nI_clamp (by omega)) hq dX0_taken_24 ?_
        refine x_castF h q702 hqn hqT hcl9 hp9 dX0_taken_25 (fun t9 ht9 hn9 => x_note h hl xb_cce ht9 hn9 (by decide) ⟨by decide, by decide⟩ (Nat.le_of_ble_eq_true rfl) (fun n9 hn99 => XN.catch h hTb (pre := [⟨19, 46, 47, 47⟩]) (x := ⟨19, 46, 51, 45⟩) (suf := _) rfl (fun z hz => by
            rcases List.mem_cons.mp hz with rfl | hz
            · exact Or.inr ⟨by decide, _, q269, by decide +kernel⟩
            · cases hz) (by decide) (by decide) q184 q246 (fun a9 => ?_)))
        refine x_astore_n h dX0_taken_51 rfl (by decide) [some (.ref (xb G + 0)), some (.int (nI s9)), some (.int k), some (.ref a9)] rfl ?_
        refine x_bipush h dX0_taken_52 (-12) rfl ?_
        refine x_wid h (by decide) (by decide) ?_
        exact x_iret h dX0_taken_54 rfl (by rw [hm]; exact ⟨rfl, grw.xt hn99, hT.gr hn99⟩)
      · skip
        obtain ⟨q, b, hq, hqn, hqT, hb, h90, h88⟩ := hbd
        have hm := taken_b (k := k) hs9 c4 c14 hb h90 h88 (by decide)
        refine x_aaldr h (q := q) (mlt hC.1 rfl) (hC.2.1 _ _ rfl) (by decide) rfl rfl (vp_in_nI hs9 (by decide)) (s9) (nI_clamp (by omega)) hq dX0_taken_24 ?_
        refine x_castS h q702 hqn hqT rfl dX0_taken_25 ?_
        refine x_astore_n h dX0_taken_28 rfl (by decide) [some (.ref (xb G + 0)), some (.int (nI s9)), some (.int k), some (.ref (xb G + q))] rfl ?_
        refine x_aload_n h dX0_taken_29 rfl ?_
        refine x_iload_n h dX0_taken_30 rfl ?_
        refine x_callUEi h (As := [.int _]) (k15_isUnder l G n _ _ hC _ _ q 15 k hqn hqT) u_X0_513_X15 hqn hqT dX0_taken_31 ⟨by decide, by decide⟩ ⟨by decide, by decide⟩ rfl (Nat.le_of_ble_eq_true rfl) ?_
        refine x_if_eq h 44 dX0_taken_34 rfl (fun c34 => ?_) (fun c34 => ?_)
        · skip
          refine x_bipush h dX0_taken_44 (-12) rfl ?_
          refine x_wid h (by decide) (by decide) ?_
          exact x_iret h dX0_taken_46 rfl (by rw [hm]; first | (rw [if_pos c34]; exact ⟨rfl, grw.rf, hT⟩) | (rw [if_neg c34]; exact ⟨rfl, grw.rf, hT⟩))
        · skip
          refine x_aload_n h dX0_taken_37 rfl ?_
          refine x_callUEi h (As := []) (k15_kind l G n _ _ hC _ _ q) u_X0_516_X15 hqn hqT dX0_taken_38 ⟨by decide, by decide⟩ ⟨by decide, by decide⟩ rfl (Nat.le_of_ble_eq_true rfl) ?_
          refine x_goto h 46 dX0_taken_41 rfl ?_
          refine x_wid h (by decide) (by decide) ?_
          exact x_iret h dX0_taken_46 rfl (by rw [hm]; first | (rw [if_pos c34]; exact ⟨rfl, grw.rf, hT⟩) | (rw [if_neg c34]; exact ⟨rfl, grw.rf, hT⟩))
      · skip
        obtain ⟨q, b, hq, hqn, hqT, hb, h90, h88⟩ := hbd
        have hm := taken_b (k := k) hs9 c4 c14 hb h90 h88 (by decide)
        refine x_aaldr h (q := q) (mlt hC.1 rfl) (hC.2.1 _ _ rfl) (by decide) rfl rfl (vp_in_nI hs9 (by decide)) (s9) (nI_clamp (by omega)) hq dX0_taken_24 ?_
        refine x_cast h q702 hqn hqT (rfl) q2265 dX0_taken_25 ?_
        refine x_astore_n h dX0_taken_28 rfl (by decide) [some (.ref (xb G + 0)), some (.int (nI s9)), some (.int k), some (.ref (xb G + q))] rfl ?_
        refine x_aload_n h dX0_taken_29 rfl ?_
        refine x_iload_n h dX0_taken_30 rfl ?_
        refine x_callUEi h (As := [.int _]) (k16_isUnder l G n _ _ hC _ _ q 16 k hqn hqT) u_X0_513_X16 hqn hqT dX0_taken_31 ⟨by decide, by decide⟩ ⟨by decide, by decide⟩ rfl (Nat.le_of_ble_eq_true rfl) ?_
        refine x_if_eq h 44 dX0_taken_34 rfl (fun c34 => ?_) (fun c34 => ?_)
        · skip
          refine x_bipush h dX0_taken_44 (-12) rfl ?_
          refine x_wid h (by decide) (by decide) ?_
          exact x_iret h dX0_taken_46 rfl (by rw [hm]; first | (rw [if_pos c34]; exact ⟨rfl, grw.rf, hT⟩) | (rw [if_neg c34]; exact ⟨rfl, grw.rf, hT⟩))
        · skip
          refine x_aload_n h dX0_taken_37 rfl ?_
          refine x_callUEi h (As := []) (k16_kind l G n _ _ hC _ _ q) u_X0_516_X16 hqn hqT dX0_taken_38 ⟨by decide, by decide⟩ ⟨by decide, by decide⟩ rfl (Nat.le_of_ble_eq_true rfl) ?_
          refine x_goto h 46 dX0_taken_41 rfl ?_
          refine x_wid h (by decide) (by decide) ?_
          exact x_iret h dX0_taken_46 rfl (by rw [hm]; first | (rw [if_pos c34]; exact ⟨rfl, grw.rf, hT⟩) | (rw [if_neg c34]; exact ⟨rfl, grw.rf, hT⟩))
      · skip
        obtain ⟨q, b, hq, hqn, hqT, hb, h90, h88⟩ := hbd
        have hm := taken_b (k := k) hs9 c4 c14 hb h90 h88 (by decide)
        refine x_aaldr h (q := q) (mlt hC.1 rfl) (hC.2.1 _ _ rfl) (by decide) rfl rfl (vp_in_nI hs9 (by decide)) (s9) (nI_clamp (by omega)) hq dX0_taken_24 ?_
        refine x_cast h q702 hqn hqT (rfl) q2269 dX0_taken_25 ?_
        refine x_astore_n h dX0_taken_28 rfl (by decide) [some (.ref (xb G + 0)), some (.int (nI s9)), some (.int k), some (.ref (xb G + q))] rfl ?_
        refine x_aload_n h dX0_taken_29 rfl ?_
        refine x_iload_n h dX0_taken_30 rfl ?_
        refine x_callUEi h (As := [.int _]) (k17_isUnder l G n _ _ hC _ _ q 17 k hqn hqT) u_X0_513_X17 hqn hqT dX0_taken_31 ⟨by decide, by decide⟩ ⟨by decide, by decide⟩ rfl (Nat.le_of_ble_eq_true rfl) ?_
        refine x_if_eq h 44 dX0_taken_34 rfl (fun c34 => ?_) (fun c34 => ?_)
        · skip
          refine x_bipush h dX0_taken_44 (-12) rfl ?_
          refine x_wid h (by decide) (by decide) ?_
          exact x_iret h dX0_taken_46 rfl (by rw [hm]; first | (rw [if_pos c34]; exact ⟨rfl, grw.rf, hT⟩) | (rw [if_neg c34]; exact ⟨rfl, grw.rf, hT⟩))
        · skip
          refine x_aload_n h dX0_taken_37 rfl ?_
          refine x_callUEi h (As := []) (k17_kind l G n _ _ hC _ _ q) u_X0_516_X17 hqn hqT dX0_taken_38 ⟨by decide, by decide⟩ ⟨by decide, by decide⟩ rfl (Nat.le_of_ble_eq_true rfl) ?_
          refine x_goto h 46 dX0_taken_41 rfl ?_
          refine x_wid h (by decide) (by decide) ?_
          exact x_iret h dX0_taken_46 rfl (by rw [hm]; first | (rw [if_pos c34]; exact ⟨rfl, grw.rf, hT⟩) | (rw [if_neg c34]; exact ⟨rfl, grw.rf, hT⟩))
      · skip
        obtain ⟨q, b, hq, hqn, hqT, hb, h90, h88⟩ := hbd
        have hm := taken_b (k := k) hs9 c4 c14 hb h90 h88 (by decide)
        refine x_aaldr h (q := q) (mlt hC.1 rfl) (hC.2.1 _ _ rfl) (by decide) rfl rfl (vp_in_nI hs9 (by decide)) (s9) (nI_clamp (by omega)) hq dX0_taken_24 ?_
        refine x_cast h q702 hqn hqT (rfl) q2266 dX0_taken_25 ?_
        refine x_astore_n h dX0_taken_28 rfl (by decide) [some (.ref (xb G + 0)), some (.int (nI s9)), some (.int k), some (.ref (xb G + q))] rfl ?_
        refine x_aload_n h dX0_taken_29 rfl ?_
        refine x_iload_n h dX0_taken_30 rfl ?_
        refine x_callUEi h (As := [.int _]) (k18_isUnder l G n _ _ hC _ _ q 18 k hqn hqT) u_X0_513_X18 hqn hqT dX0_taken_31 ⟨by decide, by decide⟩ ⟨by decide, by decide⟩ rfl (Nat.le_of_ble_eq_true rfl) ?_
        refine x_if_eq h 44 dX0_taken_34 rfl (fun c34 => ?_) (fun c34 => ?_)
        · skip
          refine x_bipush h dX0_taken_44 (-12) rfl ?_
          refine x_wid h (by decide) (by decide) ?_
          exact x_iret h dX0_taken_46 rfl (by rw [hm]; first | (rw [if_pos c34]; exact ⟨rfl, grw.rf, hT⟩) | (rw [if_neg c34]; exact ⟨rfl, grw.rf, hT⟩))
        · skip
          refine x_aload_n h dX0_taken_37 rfl ?_
          refine x_callUEi h (As := []) (k18_kind l G n _ _ hC _ _ q) u_X0_516_X18 hqn hqT dX0_taken_38 ⟨by decide, by decide⟩ ⟨by decide, by decide⟩ rfl (Nat.le_of_ble_eq_true rfl) ?_
          refine x_goto h 46 dX0_taken_41 rfl ?_
          refine x_wid h (by decide) (by decide) ?_
          exact x_iret h dX0_taken_46 rfl (by rw [hm]; first | (rw [if_pos c34]; exact ⟨rfl, grw.rf, hT⟩) | (rw [if_neg c34]; exact ⟨rfl, grw.rf, hT⟩))
      · skip
        obtain ⟨q, b, hq, hqn, hqT, hb, h90, h88⟩ := hbd
        have hm := taken_b (k := k) hs9 c4 c14 hb h90 h88 (by decide)
        refine x_aaldr h (q := q) (mlt hC.1 rfl) (hC.2.1 _ _ rfl) (by decide) rfl rfl (vp_in_nI hs9 (by decide)) (s9) (nI_clamp (by omega)) hq dX0_taken_24 ?_
        refine x_cast h q702 hqn hqT (rfl) q2271 dX0_taken_25 ?_
        refine x_astore_n h dX0_taken_28 rfl (by decide) [some (.ref (xb G + 0)), some (.int (nI s9)), some (.int k), some (.ref (xb G + q))] rfl ?_
        refine x_aload_n h dX0_taken_29 rfl ?_
        refine x_iload_n h dX0_taken_30 rfl ?_
        refine x_callUEi h (As := [.int _]) (k19_isUnder l G n _ _ hC _ _ q 19 k hqn hqT) u_X0_513_X19 hqn hqT dX0_taken_31 ⟨by decide, by decide⟩ ⟨by decide, by decide⟩ rfl (Nat.le_of_ble_eq_true rfl) ?_
        refine x_if_eq h 44 dX0_taken_34 rfl (fun c34 => ?_) (fun c34 => ?_)
        · skip
          refine x_bipush h dX0_taken_44 (-12) rfl ?_
          refine x_wid h (by decide) (by decide) ?_
          exact x_iret h dX0_taken_46 rfl (by rw [hm]; first | (rw [if_pos c34]; exact ⟨rfl, grw.rf, hT⟩) | (rw [if_neg c34]; exact ⟨rfl, grw.rf, hT⟩))
        · skip
          refine x_aload_n h dX0_taken_37 rfl ?_
          refine x_callUEi h (As := []) (k19_kind l G n _ _ hC _ _ q) u_X0_516_X19 hqn hqT dX0_taken_38 ⟨by decide, by decide⟩ ⟨by decide, by decide⟩ rfl (Nat.le_of_ble_eq_true rfl) ?_
          refine x_goto h 46 dX0_taken_41 rfl ?_
          refine x_wid h (by decide) (by decide) ?_
          exact x_iret h dX0_taken_46 rfl (by rw [hm]; first | (rw [if_pos c34]; exact ⟨rfl, grw.rf, hT⟩) | (rw [if_neg c34]; exact ⟨rfl, grw.rf, hT⟩))
      · skip
        obtain ⟨q, b, hq, hqn, hqT, hb, h90, h88⟩ := hbd
        have hm := taken_b (k := k) hs9 c4 c14 hb h90 h88 (by decide)
        refine x_aaldr h (q := q) (mlt hC.1 rfl) (hC.2.1 _ _ rfl) (by decide) rfl rfl (vp_in_nI hs9 (by decide)) (s9) (nI_clamp (by omega)) hq dX0_taken_24 ?_
        refine x_cast h q702 hqn hqT (rfl) q2267 dX0_taken_25 ?_
        refine x_astore_n h dX0_taken_28 rfl (by decide) [some (.ref (xb G + 0)), some (.int (nI s9)), some (.int k), some (.ref (xb G + q))] rfl ?_
        refine x_aload_n h dX0_taken_29 rfl ?_
        refine x_iload_n h dX0_taken_30 rfl ?_
        refine x_callUEi h (As := [.int _]) (k20_isUnder l G n _ _ hC _ _ q 20 k hqn hqT) u_X0_513_X20 hqn hqT dX0_taken_31 ⟨by decide, by decide⟩ ⟨by decide, by decide⟩ rfl (Nat.le_of_ble_eq_true rfl) ?_
        refine x_if_eq h 44 dX0_taken_34 rfl (fun c34 => ?_) (fun c34 => ?_)
        · skip
          refine x_bipush h dX0_taken_44 (-12) rfl ?_
          refine x_wid h (by decide) (by decide) ?_
          exact x_iret h dX0_taken_46 rfl (by rw [hm]; first | (rw [if_pos c34]; exact ⟨rfl, grw.rf, hT⟩) | (rw [if_neg c34]; exact ⟨rfl, grw.rf, hT⟩))
        · skip
          refine x_aload_n h dX0_taken_37 rfl ?_
          refine x_callUEi h (As := []) (k20_kind l G n _ _ hC _ _ q) u_X0_516_X20 hqn hqT dX0_taken_38 ⟨by decide, by decide⟩ ⟨by decide, by decide⟩ rfl (Nat.le_of_ble_eq_true rfl) ?_
          refine x_goto h 46 dX0_taken_41 rfl ?_
          refine x_wid h (by decide) (by decide) ?_
          exact x_iret h dX0_taken_46 rfl (by rw [hm]; first | (rw [if_pos c34]; exact ⟨rfl, grw.rf, hT⟩) | (rw [if_neg c34]; exact ⟨rfl, grw.rf, hT⟩))
      · skip
        obtain ⟨q, b, hq, hqn, hqT, hb, h90, h88⟩ := hbd
        have hm := taken_b (k := k) hs9 c4 c14 hb h90 h88 (by decide)
        refine x_aaldr h (q := q) (mlt hC.1 rfl) (hC.2.1 _ _ rfl) (by decide) rfl rfl (vp_in_nI hs9 (by decide)) (s9) (nI_clamp (by omega)) hq dX0_taken_24 ?_
        refine x_cast h q702 hqn hqT (rfl) q2268 dX0_taken_25 ?_
        refine x_astore_n h dX0_taken_28 rfl (by decide) [some (.ref (xb G + 0)), some (.int (nI s9)), some (.int k), some (.ref (xb G + q))] rfl ?_
        refine x_aload_n h dX0_taken_29 rfl ?_
        refine x_iload_n h dX0_taken_30 rfl ?_
        refine x_callUEi h (As := [.int _]) (k21_isUnder l G n _ _ hC _ _ q 21 k hqn hqT) u_X0_513_X21 hqn hqT dX0_taken_31 ⟨by decide, by decide⟩ ⟨by decide, by decide⟩ rfl (Nat.le_of_ble_eq_true rfl) ?_
        refine x_if_eq h 44 dX0_taken_34 rfl (fun c34 => ?_) (fun c34 => ?_)
        · skip
          refine x_bipush h dX0_taken_44 (-12) rfl ?_
          refine x_wid h (by decide) (by decide) ?_
          exact x_iret h dX0_taken_46 rfl (by rw [hm]; first | (rw [if_pos c34]; exact ⟨rfl, grw.rf, hT⟩) | (rw [if_neg c34]; exact ⟨rfl, grw.rf, hT⟩))
        · skip
          refine x_aload_n h dX0_taken_37 rfl ?_
          refine x_callUEi h (As := []) (k21_kind l G n _ _ hC _ _ q) u_X0_516_X21 hqn hqT dX0_taken_38 ⟨by decide, by decide⟩ ⟨by decide, by decide⟩ rfl (Nat.le_of_ble_eq_true rfl) ?_
          refine x_goto h 46 dX0_taken_41 rfl ?_
          refine x_wid h (by decide) (by decide) ?_
          exact x_iret h dX0_taken_46 rfl (by rw [hm]; first | (rw [if_pos c34]; exact ⟨rfl, grw.rf, hT⟩) | (rw [if_neg c34]; exact ⟨rfl, grw.rf, hT⟩))
      · skip
        obtain ⟨q, b, hq, hqn, hqT, hb, h90, h88⟩ := hbd
        have hm := taken_b (k := k) hs9 c4 c14 hb h90 h88 (by decide)
        refine x_aaldr h (q := q) (mlt hC.1 rfl) (hC.2.1 _ _ rfl) (by decide) rfl rfl (vp_in_nI hs9 (by decide)) (s9) (nI_clamp (by omega)) hq dX0_taken_24 ?_
        refine x_cast h q702 hqn hqT (rfl) q2270 dX0_taken_25 ?_
        refine x_astore_n h dX0_taken_28 rfl (by decide) [some (.ref (xb G + 0)), some (.int (nI s9)), some (.int k), some (.ref (xb G + q))] rfl ?_
        refine x_aload_n h dX0_taken_29 rfl ?_
        refine x_iload_n h dX0_taken_30 rfl ?_
        refine x_callUEi h (As := [.int _]) (k22_isUnder l G n _ _ hC _ _ q 22 k hqn hqT) u_X0_513_X22 hqn hqT dX0_taken_31 ⟨by decide, by decide⟩ ⟨by decide, by decide⟩ rfl (Nat.le_of_ble_eq_true rfl) ?_
        refine x_if_eq h 44 dX0_taken_34 rfl (fun c34 => ?_) (fun c34 => ?_)
        · skip
          refine x_bipush h dX0_taken_44 (-12) rfl ?_
          refine x_wid h (by decide) (by decide) ?_
          exact x_iret h dX0_taken_46 rfl (by rw [hm]; first | (rw [if_pos c34]; exact ⟨rfl, grw.rf, hT⟩) | (rw [if_neg c34]; exact ⟨rfl, grw.rf, hT⟩))
        · skip
          refine x_aload_n h dX0_taken_37 rfl ?_
          refine x_callUEi h (As := []) (k22_kind l G n _ _ hC _ _ q) u_X0_516_X22 hqn hqT dX0_taken_38 ⟨by decide, by decide⟩ ⟨by decide, by decide⟩ rfl (Nat.le_of_ble_eq_true rfl) ?_
          refine x_goto h 46 dX0_taken_41 rfl ?_
          refine x_wid h (by decide) (by decide) ?_
          exact x_iret h dX0_taken_46 rfl (by rw [hm]; first | (rw [if_pos c34]; exact ⟨rfl, grw.rf, hT⟩) | (rw [if_neg c34]; exact ⟨rfl, grw.rf, hT⟩))
    · skip
      have hm : m_taken J (nI s9) k = -1 := by unfold m_taken; rw [if_neg c4, if_pos c14]
      refine x_iconst h dX0_taken_17 (-1) rfl ?_
      refine x_wid h (by decide) (by decide) ?_
      exact x_iret h dX0_taken_18 rfl (by rw [hm]; exact ⟨rfl, grw.rf, hT⟩)
