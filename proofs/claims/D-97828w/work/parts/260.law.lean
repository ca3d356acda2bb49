/-! ### the law's own rows: the script -/
def sI (sc : Nat × (Nat → Int32)) (i : Int32) : Option Int32 := if ¬ (i < 0 ∨ sc.1 ≤ i.toNatClampNeg) then some (sc.2 i.toNatClampNeg) else none
section JRL
variable {g : Gt} {x : Xt} {o : Outcome} {w1 : cH} {mc ms : Nat} {w : cH} {k n pc : Nat} {vs vs' : List (Option Value)} {st : List Value} {cc : ByteArray} {nL : Nat} {own : String} {ret : Option FieldType} {sc : Nat × (Nat → Int32)}
theorem j_sld (B : Bd g x cc nL own ret) (hX : va_X g.2.1 sc.1 sc.2 g.1 g.1.heap) (hbl : g.2.1 < gb g) {i : Int32} (d : decode cc pc = .ok (.iaload, 1)) {β : Type} {K : Int32 → Option β} {out : β} (hF : (sI sc i).bind K = some out) (kk : ∀ v, K v = some out → J g x o w1 mc ms w k n (pc + 1) vs (.int v :: st)) : J g x o w1 mc ms w k n pc vs (.int i :: va_rf (some g.2.1) :: st) := by
  obtain ⟨v, h1, h2⟩ := bo hF
  have kk := kk _ h2
  unfold sI at h1
  obtain ⟨hin, h1⟩ := bg h1
  cases h1
  obtain ⟨p, l, e, R, s, m, args, below, meth, c⟩ := x
  obtain ⟨hx, hb, hml, hown, hts, hr, hlk, hW0, hG⟩ := B
  intro H locs ls hH hL hl
  obtain ⟨scr, q1, q2, q3, q4, q5⟩ := hX.moved hW0.alike
  have hlt : i.toNatClampNeg < sc.1 := Nat.not_le.mp fun q => hin (Or.inr q)
  exact W.iald (v := .int (sc.2 i.toNatClampNeg)) hx hb (by rw [hH.2.2.1 _ hbl]; exact q1) q2 q3 (by rw [q4]; exact hin) (q5 _ hlt) rfl rfl d (kk H locs ls hH hL hl)
theorem j_slen (B : Bd g x cc nL own ret) (hX : va_X g.2.1 sc.1 sc.2 g.1 g.1.heap) (hbl : g.2.1 < gb g) (d : decode cc pc = .ok (.arraylength, 1)) (kk : J g x o w1 mc ms w k n (pc + 1) vs (.int (Int32.ofNat sc.1) :: st)) : J g x o w1 mc ms w k n pc vs (va_rf (some g.2.1) :: st) := by
  obtain ⟨p, l, e, R, s, m, args, below, meth, c⟩ := x
  obtain ⟨hx, hb, hml, hown, hts, hr, hlk, hW0, hG⟩ := B
  intro H locs ls hH hL hl
  obtain ⟨scr, q1, q2, q3, q4, q5⟩ := hX.moved hW0.alike
  exact W.alen (n := Int32.ofNat sc.1) hx hb (by rw [hH.2.2.1 _ hbl]; exact q1) q2 (by rw [q4] <;> rfl) rfl rfl d (kk H locs ls hH hL hl)
end JRL
theorem ofN6 (j : Nat) : Int32.ofNat (6 * j) + 6 = Int32.ofNat (6 * (j + 1)) := by
  rw [show 6 * (j + 1) = 6 * j + 6 by omega, Int32.ofNat_add]; rfl
theorem lw64 {N j : Nat} (hN : N ≤ 384) (hj : j ≤ 64) (h : ¬ Int32.ofNat N - 6 < Int32.ofNat (6 * j)) : j + 1 ≤ 64 := by
  have e1 : (Int32.ofNat N - 6).toInt = (N : Int) - 6 := by
    rw [Int32.toInt_sub, Int32.toInt_ofNat_of_lt (by omega)]
    show Int.bmod ((N : Int) - 6) (2 ^ 32) = _
    rw [Int.bmod_eq_of_le (by omega) (by omega)]
  rw [Int32.lt_iff_toInt_lt, e1, Int32.toInt_ofNat_of_lt (by omega)] at h
  omega
def dfX0 : Nat → Value := fun k => defaultValue (tyX0 k)
theorem nw_L_7 : NW "CarryFairLaw" 7 0 20 dfX0 := ⟨RX0, TX0, 20, tyX0, rfl, in_X0, tyX0_ok, q150, q151, q126, fun _ _ => rfl⟩
def dfX13 : Nat → Value := fun k => defaultValue (tyX13 k)
theorem nw_L_10 : NW "CarryFairLaw" 10 13 30 dfX13 := ⟨RX13, TX13, 30, tyX13, rfl, in_X13, tyX13_ok, q1320, q1321, q142, fun _ _ => rfl⟩
theorem cx_L_145 : CX "CarryFairLaw" 145 0 yX0_ahead (wsW_ yX0_ahead cX0_ahead 5 (some .int) hh_X0_ahead) 5 1 := ⟨⟨_, _, rfl⟩, q1036, q1037, q1038, q126, wsOk_codeW q1039, by decide +kernel, by decide +kernel⟩
theorem cx_L_162 : CX "CarryFairLaw" 162 0 yX0_text (wsW_ yX0_text cX0_text 2 (some .int) hh_X0_text) 2 0 := ⟨⟨_, _, rfl⟩, q1065, q1066, q1067, q126, wsOk_codeW q1068, by decide +kernel, by decide +kernel⟩
theorem cx_L_178 : CX "CarryFairLaw" 178 0 yX0_write (wsW_ yX0_write cX0_write 5 (some .int) hh_X0_write) 5 3 := ⟨⟨_, _, rfl⟩, q1241, q1242, q1243, q126, wsOk_codeW q1244, by decide +kernel, by decide +kernel⟩
theorem cx_L_182 : CX "CarryFairLaw" 182 0 yX0_copy (wsW_ yX0_copy cX0_copy 8 (some .int) hh_X0_copy) 8 5 := ⟨⟨_, _, rfl⟩, q1266, q1267, q1268, q126, wsOk_codeW q1269, by decide +kernel, by decide +kernel⟩
theorem cx_L_187 : CX "CarryFairLaw" 187 0 yX0_load_2 (wsW_ yX0_load_2 cX0_load_2 3 (some .int) hh_X0_load_2) 3 1 := ⟨⟨_, _, rfl⟩, q1277, q1278, q1279, q126, wsOk_codeW q1280, by decide +kernel, by decide +kernel⟩
theorem cx_L_191 : CX "CarryFairLaw" 191 0 yX0_judge (wsW_ yX0_judge cX0_judge 4 (some .int) hh_X0_judge) 4 2 := ⟨⟨_, _, rfl⟩, q1288, q1289, q1290, q126, wsOk_codeW q1291, by decide +kernel, by decide +kernel⟩
theorem cv_L_13 : CV "CarryFairLaw" 13 0 yX0_carrier cX0_carrier 2 (some .int) 1 := ⟨_, _, rfl, lw_V q500 q501 q502 q126 q503, by decide +kernel⟩
theorem cv_L_17 : CV "CarryFairLaw" 17 13 yX13_carrier cX13_carrier 2 (some .int) 1 := ⟨_, _, rfl, lw_V q1426 q1427 q1428 q142 q1429, by decide +kernel⟩
theorem cv_L_18 : CV "CarryFairLaw" 18 0 yX0_of cX0_of 3 (some .int) 2 := ⟨_, _, rfl, lw_V q519 q520 q521 q126 q522, by decide +kernel⟩
theorem cv_L_22 : CV "CarryFairLaw" 22 13 yX13_of cX13_of 3 (some .int) 2 := ⟨_, _, rfl, lw_V q1449 q1450 q1451 q142 q1452, by decide +kernel⟩
theorem cv_L_23 : CV "CarryFairLaw" 23 0 yX0_change cX0_change 5 (some .int) 3 := ⟨_, _, rfl, lw_V q617 q618 q619 q126 q620, by decide +kernel⟩
theorem cv_L_27 : CV "CarryFairLaw" 27 13 yX13_change cX13_change 5 (some .int) 3 := ⟨_, _, rfl, lw_V q1489 q1490 q1491 q142 q1492, by decide +kernel⟩
theorem cv_L_28 : CV "CarryFairLaw" 28 0 yX0_way cX0_way 6 (some .int) 4 := ⟨_, _, rfl, lw_V q628 q629 q630 q126 q631, by decide +kernel⟩
theorem cv_L_32 : CV "CarryFairLaw" 32 13 yX13_way cX13_way 6 (some .int) 4 := ⟨_, _, rfl, lw_V q1501 q1502 q1503 q142 q1504, by decide +kernel⟩
theorem cv_L_33 : CV "CarryFairLaw" 33 0 yX0_wayOf cX0_wayOf 4 (some .int) 3 := ⟨_, _, rfl, lw_V q639 q640 q641 q126 q642, by decide +kernel⟩
theorem cv_L_36 : CV "CarryFairLaw" 36 13 yX13_wayOf cX13_wayOf 5 (some .int) 3 := ⟨_, _, rfl, lw_V q1514 q1515 q1516 q142 q1517, by decide +kernel⟩
theorem cv_L_37 : CV "CarryFairLaw" 37 0 yX0_errand cX0_errand 4 (some .int) 3 := ⟨_, _, rfl, lw_V q643 q644 q645 q126 q646, by decide +kernel⟩
theorem cv_L_40 : CV "CarryFairLaw" 40 13 yX13_errand cX13_errand 4 (some .int) 3 := ⟨_, _, rfl, lw_V q1518 q1519 q1520 q142 q1521, by decide +kernel⟩
theorem cv_L_41 : CV "CarryFairLaw" 41 0 yX0_errandOf cX0_errandOf 3 (some .int) 2 := ⟨_, _, rfl, lw_V q651 q652 q653 q126 q654, by decide +kernel⟩
theorem cv_L_44 : CV "CarryFairLaw" 44 13 yX13_errandOf cX13_errandOf 4 (some .int) 2 := ⟨_, _, rfl, lw_V q1526 q1527 q1528 q142 q1529, by decide +kernel⟩
theorem cv_L_45 : CV "CarryFairLaw" 45 0 yX0_ware cX0_ware 2 (some .int) 1 := ⟨_, _, rfl, lw_V q711 q712 q713 q126 q714, by decide +kernel⟩
theorem cv_L_48 : CV "CarryFairLaw" 48 13 yX13_ware cX13_ware 2 (some .int) 1 := ⟨_, _, rfl, lw_V q1552 q1553 q1554 q142 q1555, by decide +kernel⟩
theorem cv_L_49 : CV "CarryFairLaw" 49 0 yX0_wareOf cX0_wareOf 3 (some .int) 2 := ⟨_, _, rfl, lw_V q722 q723 q724 q126 q725, by decide +kernel⟩
theorem cv_L_52 : CV "CarryFairLaw" 52 13 yX13_wareOf cX13_wareOf 3 (some .int) 2 := ⟨_, _, rfl, lw_V q1563 q1564 q1565 q142 q1566, by decide +kernel⟩
theorem cv_L_53 : CV "CarryFairLaw" 53 0 yX0_far cX0_far 4 (some .int) 3 := ⟨_, _, rfl, lw_V q730 q731 q732 q126 q733, by decide +kernel⟩
theorem cv_L_56 : CV "CarryFairLaw" 56 13 yX13_far cX13_far 5 (some .int) 3 := ⟨_, _, rfl, lw_V q1571 q1572 q1573 q142 q1574, by decide +kernel⟩
theorem cv_L_57 : CV "CarryFairLaw" 57 0 yX0_first cX0_first 4 (some .int) 2 := ⟨_, _, rfl, lw_V q742 q743 q744 q126 q745, by decide +kernel⟩
theorem cv_L_60 : CV "CarryFairLaw" 60 13 yX13_first cX13_first 9 (some .int) 2 := ⟨_, _, rfl, lw_V q1575 q1576 q1577 q142 q1578, by decide +kernel⟩
theorem cv_L_61 : CV "CarryFairLaw" 61 0 yX0_take cX0_take 3 (some .int) 2 := ⟨_, _, rfl, lw_V q750 q751 q752 q126 q753, by decide +kernel⟩
theorem cv_L_64 : CV "CarryFairLaw" 64 13 yX13_take cX13_take 3 (some .int) 2 := ⟨_, _, rfl, lw_V q1579 q1580 q1581 q142 q1582, by decide +kernel⟩
theorem cv_L_65 : CV "CarryFairLaw" 65 0 yX0_drop cX0_drop 4 (some .int) 2 := ⟨_, _, rfl, lw_V q766 q767 q768 q126 q769, by decide +kernel⟩
theorem cv_L_68 : CV "CarryFairLaw" 68 13 yX13_drop cX13_drop 3 (some .int) 2 := ⟨_, _, rfl, lw_V q1596 q1597 q1598 q142 q1599, by decide +kernel⟩
theorem cv_L_69 : CV "CarryFairLaw" 69 0 yX0_walk cX0_walk 4 (some .int) 2 := ⟨_, _, rfl, lw_V q771 q772 q773 q126 q774, by decide +kernel⟩
theorem cv_L_72 : CV "CarryFairLaw" 72 13 yX13_walk cX13_walk 4 (some .int) 2 := ⟨_, _, rfl, lw_V q1600 q1601 q1602 q142 q1603, by decide +kernel⟩
theorem cv_L_73 : CV "CarryFairLaw" 73 0 yX0_buy cX0_buy 3 (some .int) 2 := ⟨_, _, rfl, lw_V q824 q825 q826 q126 q827, by decide +kernel⟩
theorem cv_L_76 : CV "CarryFairLaw" 76 13 yX13_buy cX13_buy 3 (some .int) 2 := ⟨_, _, rfl, lw_V q1612 q1613 q1614 q142 q1615, by decide +kernel⟩
theorem cv_L_77 : CV "CarryFairLaw" 77 0 yX0_now cX0_now 2 (some .int) 1 := ⟨_, _, rfl, lw_V q828 q829 q830 q126 q831, by decide +kernel⟩
theorem cv_L_80 : CV "CarryFairLaw" 80 13 yX13_now cX13_now 4 (some .int) 1 := ⟨_, _, rfl, lw_V q1616 q1617 q1618 q142 q1619, by decide +kernel⟩
theorem cv_L_81 : CV "CarryFairLaw" 81 0 yX0_round cX0_round 4 (some .int) 2 := ⟨_, _, rfl, lw_V q844 q845 q846 q126 q847, by decide +kernel⟩
theorem cv_L_84 : CV "CarryFairLaw" 84 13 yX13_round cX13_round 4 (some .int) 2 := ⟨_, _, rfl, lw_V q1628 q1629 q1630 q142 q1631, by decide +kernel⟩
theorem cv_L_85 : CV "CarryFairLaw" 85 0 yX0_gets cX0_gets 3 (some .int) 2 := ⟨_, _, rfl, lw_V q902 q903 q904 q126 q905, by decide +kernel⟩
theorem cv_L_88 : CV "CarryFairLaw" 88 13 yX13_gets cX13_gets 4 (some .int) 2 := ⟨_, _, rfl, lw_V q1671 q1672 q1673 q142 q1674, by decide +kernel⟩
theorem cv_L_89 : CV "CarryFairLaw" 89 0 yX0_cheapest cX0_cheapest 4 (some .int) 2 := ⟨_, _, rfl, lw_V q910 q911 q912 q126 q913, by decide +kernel⟩
theorem cv_L_92 : CV "CarryFairLaw" 92 13 yX13_cheapest cX13_cheapest 4 (some .int) 2 := ⟨_, _, rfl, lw_V q1679 q1680 q1681 q142 q1682, by decide +kernel⟩
theorem cv_L_93 : CV "CarryFairLaw" 93 0 yX0_which cX0_which 4 (some .int) 2 := ⟨_, _, rfl, lw_V q922 q923 q924 q126 q925, by decide +kernel⟩
theorem cv_L_96 : CV "CarryFairLaw" 96 13 yX13_which cX13_which 4 (some .int) 2 := ⟨_, _, rfl, lw_V q1687 q1688 q1689 q142 q1690, by decide +kernel⟩
theorem cv_L_97 : CV "CarryFairLaw" 97 0 yX0_who cX0_who 2 (some .int) 1 := ⟨_, _, rfl, lw_V q926 q927 q928 q126 q929, by decide +kernel⟩
theorem cv_L_100 : CV "CarryFairLaw" 100 13 yX13_who cX13_who 6 (some .int) 1 := ⟨_, _, rfl, lw_V q1691 q1692 q1693 q142 q1694, by decide +kernel⟩
theorem cv_L_101 : CV "CarryFairLaw" 101 0 yX0_joined cX0_joined 5 (some .int) 2 := ⟨_, _, rfl, lw_V q934 q935 q936 q126 q937, by decide +kernel⟩
theorem cv_L_104 : CV "CarryFairLaw" 104 13 yX13_joined cX13_joined 7 (some .int) 2 := ⟨_, _, rfl, lw_V q1695 q1696 q1697 q142 q1698, by decide +kernel⟩
theorem cv_L_105 : CV "CarryFairLaw" 105 0 yX0_shared cX0_shared 5 (some .int) 3 := ⟨_, _, rfl, lw_V q942 q943 q944 q126 q945, by decide +kernel⟩
theorem cv_L_108 : CV "CarryFairLaw" 108 13 yX13_shared cX13_shared 5 (some .int) 3 := ⟨_, _, rfl, lw_V q1699 q1700 q1701 q142 q1702, by decide +kernel⟩
theorem cv_L_109 : CV "CarryFairLaw" 109 0 yX0_part cX0_part 5 (some .int) 3 := ⟨_, _, rfl, lw_V q954 q955 q956 q126 q957, by decide +kernel⟩
theorem cv_L_112 : CV "CarryFairLaw" 112 13 yX13_part cX13_part 5 (some .int) 3 := ⟨_, _, rfl, lw_V q1707 q1708 q1709 q142 q1710, by decide +kernel⟩
theorem cv_L_113 : CV "CarryFairLaw" 113 0 yX0_strength cX0_strength 5 (some .int) 2 := ⟨_, _, rfl, lw_V q958 q959 q960 q126 q961, by decide +kernel⟩
theorem cv_L_116 : CV "CarryFairLaw" 116 13 yX13_strength cX13_strength 7 (some .int) 2 := ⟨_, _, rfl, lw_V q1711 q1712 q1713 q142 q1714, by decide +kernel⟩
theorem cv_L_117 : CV "CarryFairLaw" 117 0 yX0_kindFor cX0_kindFor 9 (some .int) 2 := ⟨_, _, rfl, lw_V q966 q967 q968 q126 q969, by decide +kernel⟩
theorem cv_L_120 : CV "CarryFairLaw" 120 13 yX13_kindFor cX13_kindFor 9 (some .int) 2 := ⟨_, _, rfl, lw_V q1715 q1716 q1717 q142 q1718, by decide +kernel⟩
theorem cv_L_121 : CV "CarryFairLaw" 121 0 yX0_bridge cX0_bridge 4 (some .int) 2 := ⟨_, _, rfl, lw_V q970 q971 q972 q126 q973, by decide +kernel⟩
theorem cv_L_124 : CV "CarryFairLaw" 124 13 yX13_bridge cX13_bridge 4 (some .int) 2 := ⟨_, _, rfl, lw_V q1719 q1720 q1721 q142 q1722, by decide +kernel⟩
theorem cv_L_125 : CV "CarryFairLaw" 125 0 yX0_worth cX0_worth 6 (some .int) 2 := ⟨_, _, rfl, lw_V q982 q983 q984 q126 q985, by decide +kernel⟩
theorem cv_L_128 : CV "CarryFairLaw" 128 13 yX13_worth cX13_worth 5 (some .int) 2 := ⟨_, _, rfl, lw_V q1727 q1728 q1729 q142 q1730, by decide +kernel⟩
theorem cv_L_129 : CV "CarryFairLaw" 129 0 yX0_reach cX0_reach 2 (some .int) 1 := ⟨_, _, rfl, lw_V q986 q987 q988 q126 q989, by decide +kernel⟩
theorem cv_L_132 : CV "CarryFairLaw" 132 13 yX13_reach cX13_reach 4 (some .int) 1 := ⟨_, _, rfl, lw_V q1731 q1732 q1733 q142 q1734, by decide +kernel⟩
theorem cv_L_133 : CV "CarryFairLaw" 133 0 yX0_middle cX0_middle 2 (some .int) 1 := ⟨_, _, rfl, lw_V q994 q995 q996 q126 q997, by decide +kernel⟩
theorem cv_L_136 : CV "CarryFairLaw" 136 13 yX13_middle cX13_middle 8 (some .int) 1 := ⟨_, _, rfl, lw_V q1735 q1736 q1737 q142 q1738, by decide +kernel⟩
theorem cv_L_137 : CV "CarryFairLaw" 137 0 yX0_heavy cX0_heavy 6 (some .int) 2 := ⟨_, _, rfl, lw_V q1011 q1012 q1013 q126 q1014, by decide +kernel⟩
theorem cv_L_140 : CV "CarryFairLaw" 140 13 yX13_heavy cX13_heavy 6 (some .int) 2 := ⟨_, _, rfl, lw_V q1739 q1740 q1741 q142 q1742, by decide +kernel⟩
theorem cv_L_141 : CV "CarryFairLaw" 141 0 yX0_day cX0_day 3 (some .int) 1 := ⟨_, _, rfl, lw_V q1015 q1016 q1017 q126 q1018, by decide +kernel⟩
theorem cv_L_144 : CV "CarryFairLaw" 144 13 yX13_day cX13_day 3 (some .int) 1 := ⟨_, _, rfl, lw_V q1743 q1744 q1745 q142 q1746, by decide +kernel⟩
theorem cv_L_148 : CV "CarryFairLaw" 148 13 yX13_ahead cX13_ahead 3 (some .int) 1 := ⟨_, _, rfl, lw_V q1764 q1765 q1766 q142 q1767, by decide +kernel⟩
theorem cv_L_149 : CV "CarryFairLaw" 149 0 yX0_seed cX0_seed 3 (some .int) 1 := ⟨_, _, rfl, lw_V q1053 q1054 q1055 q126 q1056, by decide +kernel⟩
theorem cv_L_152 : CV "CarryFairLaw" 152 13 yX13_seed cX13_seed 2 (some .int) 1 := ⟨_, _, rfl, lw_V q1775 q1776 q1777 q142 q1778, by decide +kernel⟩
theorem cv_L_153 : CV "CarryFairLaw" 153 0 yX0_feed cX0_feed 4 (some .int) 2 := ⟨_, _, rfl, lw_V q1057 q1058 q1059 q126 q1060, by decide +kernel⟩
theorem cv_L_156 : CV "CarryFairLaw" 156 13 yX13_feed cX13_feed 4 (some .int) 2 := ⟨_, _, rfl, lw_V q1779 q1780 q1781 q142 q1782, by decide +kernel⟩
theorem cv_L_157 : CV "CarryFairLaw" 157 0 yX0_wipe cX0_wipe 2 (some .int) 0 := ⟨_, _, rfl, lw_V q1061 q1062 q1063 q126 q1064, by decide +kernel⟩
theorem cv_L_161 : CV "CarryFairLaw" 161 13 yX13_wipe cX13_wipe 2 (some .int) 0 := ⟨_, _, rfl, lw_V q1783 q1784 q1785 q142 q1786, by decide +kernel⟩
theorem cv_L_165 : CV "CarryFairLaw" 165 13 yX13_text cX13_text 3 (some .int) 0 := ⟨_, _, rfl, lw_V q1787 q1788 q1789 q142 q1790, by decide +kernel⟩
theorem cv_L_166 : CV "CarryFairLaw" 166 0 yX0_hold cX0_hold 3 (some .int) 2 := ⟨_, _, rfl, lw_V q1194 q1195 q1196 q126 q1197, by decide +kernel⟩
theorem cv_L_169 : CV "CarryFairLaw" 169 13 yX13_hold cX13_hold 3 (some .int) 2 := ⟨_, _, rfl, lw_V q1853 q1854 q1855 q142 q1856, by decide +kernel⟩
theorem cv_L_170 : CV "CarryFairLaw" 170 0 yX0_as cX0_as 5 (some .int) 2 := ⟨_, _, rfl, lw_V q1201 q1202 q1203 q126 q1204, by decide +kernel⟩
theorem cv_L_173 : CV "CarryFairLaw" 173 13 yX13_as cX13_as 4 (some .int) 2 := ⟨_, _, rfl, lw_V q1860 q1861 q1862 q142 q1863, by decide +kernel⟩
theorem cv_L_174 : CV "CarryFairLaw" 174 0 yX0_sheet cX0_sheet 4 (some .int) 3 := ⟨_, _, rfl, lw_V q1233 q1234 q1235 q126 q1236, by decide +kernel⟩
theorem cv_L_177 : CV "CarryFairLaw" 177 13 yX13_sheet cX13_sheet 5 (some .int) 3 := ⟨_, _, rfl, lw_V q1866 q1867 q1868 q142 q1869, by decide +kernel⟩
theorem cv_L_181 : CV "CarryFairLaw" 181 13 yX13_write cX13_write 4 (some .int) 3 := ⟨_, _, rfl, lw_V q1874 q1875 q1876 q142 q1877, by decide +kernel⟩
theorem cv_L_186 : CV "CarryFairLaw" 186 13 yX13_copy cX13_copy 7 (some .int) 5 := ⟨_, _, rfl, lw_V q1881 q1882 q1883 q142 q1884, by decide +kernel⟩
theorem cv_L_190 : CV "CarryFairLaw" 190 13 yX13_load cX13_load 3 (some .int) 1 := ⟨_, _, rfl, lw_V q1885 q1886 q1887 q142 q1888, by decide +kernel⟩
theorem cv_L_194 : CV "CarryFairLaw" 194 13 yX13_judge cX13_judge 7 (some .int) 2 := ⟨_, _, rfl, lw_V q1889 q1890 q1891 q142 q1892, by decide +kernel⟩
theorem cv_L_195 : CV "CarryFairLaw" 195 0 yX0_image cX0_image 1 (some .int) 0 := ⟨_, _, rfl, lw_V q1296 q1297 q1298 q126 q1299, by decide +kernel⟩
theorem cv_L_198 : CV "CarryFairLaw" 198 13 yX13_image cX13_image 1 (some .int) 0 := ⟨_, _, rfl, lw_V q1893 q1894 q1895 q142 q1896, by decide +kernel⟩
theorem cv_L_199 : CV "CarryFairLaw" 199 0 yX0_undo cX0_undo 1 (some .int) 0 := ⟨_, _, rfl, lw_V q1300 q1301 q1302 q126 q1303, by decide +kernel⟩
theorem cv_L_202 : CV "CarryFairLaw" 202 13 yX13_undo cX13_undo 1 (some .int) 0 := ⟨_, _, rfl, lw_V q1897 q1898 q1899 q142 q1900, by decide +kernel⟩
theorem cv_L_203 : CV "CarryFairLaw" 203 0 yX0_tear cX0_tear 2 (some .int) 0 := ⟨_, _, rfl, lw_V q1304 q1305 q1306 q126 q1307, by decide +kernel⟩
theorem cv_L_206 : CV "CarryFairLaw" 206 13 yX13_tear cX13_tear 2 (some .int) 0 := ⟨_, _, rfl, lw_V q1901 q1902 q1903 q142 q1904, by decide +kernel⟩
theorem cv_L_207 : CV "CarryFairLaw" 207 0 yX0_count cX0_count 2 (some .int) 1 := ⟨_, _, rfl, lw_V q1308 q1309 q1310 q126 q1311, by decide +kernel⟩
theorem cv_L_210 : CV "CarryFairLaw" 210 13 yX13_count cX13_count 4 (some .int) 1 := ⟨_, _, rfl, lw_V q1905 q1906 q1907 q142 q1908, by decide +kernel⟩
theorem cv_L_211 : CV "CarryFairLaw" 211 0 yX0_status cX0_status 4 (some .int) 1 := ⟨_, _, rfl, lw_V q1316 q1317 q1318 q126 q1319, by decide +kernel⟩
theorem cv_L_214 : CV "CarryFairLaw" 214 13 yX13_status cX13_status 2 (some .int) 1 := ⟨_, _, rfl, lw_V q1909 q1910 q1911 q142 q1912, by decide +kernel⟩
theorem ci_L_9 : CI "CarryFairLaw" 9 yX0_init cX0_init 2 0 := ⟨Or.inl q152, q153, q126, q154, rfl, by decide +kernel⟩
theorem ci_L_12 : CI "CarryFairLaw" 12 yX13_init cX13_init 2 0 := ⟨Or.inl q1322, q1323, q142, q1324, rfl, by decide +kernel⟩
def F_L_law_J1771 (g : Gt) (sc : Nat × (Nat → Int32)) (rc18 : (Option Nat) → (Option Nat) → Int32 → cH → Option (Int32 × cH)) (a1 : Option Nat) (a2 : Option Nat) (x3 : Int32) (w : cH) : Option (Int32 × cH) :=
  rc18 a1 a2 (x3 + 6) w
def F_L_law_B18 (g : Gt) (sc : Nat × (Nat → Int32)) (rc18 : Option Nat → Option Nat → Int32 → cH → Option (Int32 × cH)) (a1 : Option Nat) (a2 : Option Nat) (x3 : Int32) (w : cH) : Option (Int32 × cH) :=
  if ((Int32.ofNat sc.1) - 6) < x3 then (some (1, w)) else ((sI sc x3).bind fun i29 => if (i29 &&& 63) = 0 then ((sI sc (x3 + 1)).bind fun i249 => cb (F_X0_carrier a1 i249 w) fun i250 w250 => (sI sc (x3 + 1)).bind fun i258 => cb (F_X13_carrier a2 i258 w250) fun i259 w259 =>if i250 = i259 then (F_L_law_J1771 g sc  rc18 a1 a2 x3 w259) else (some (0, w259))) else if (i29 &&& 63) = 1 then ((sI sc (x3 + 1)).bind fun i272 => (sI sc (x3 + 2)).bind fun i277 => cb (F_X0_of a1 i272 i277 w) fun i278 w278 => (sI sc (x3 + 1)).bind fun i286 => (sI sc (x3 + 2)).bind fun i291 => cb (F_X13_of a2 i286 i291 w278) fun i292 w292 =>if i278 = i292 then (F_L_law_J1771 g sc  rc18 a1 a2 x3 w292) else (some (0, w292))) else if (i29 &&& 63) = 2 then ((sI sc (x3 + 1)).bind fun i305 => (sI sc (x3 + 2)).bind fun i310 => (sI sc (x3 + 3)).bind fun i315 => cb (F_X0_change a1 i305 i310 i315 w) fun i316 w316 => (sI sc (x3 + 1)).bind fun i324 => (sI sc (x3 + 2)).bind fun i329 => (sI sc (x3 + 3)).bind fun i334 => cb (F_X13_change a2 i324 i329 i334 w316) fun i335 w335 =>if i316 = i335 then (F_L_law_J1771 g sc  rc18 a1 a2 x3 w335) else (some (0, w335))) else if (i29 &&& 63) = 3 then ((sI sc (x3 + 1)).bind fun i348 => (sI sc (x3 + 2)).bind fun i353 => (sI sc (x3 + 3)).bind fun i358 => (sI sc (x3 + 4)).bind fun i363 => cb (F_X0_way a1 i348 i353 i358 i363 w) fun i364 w364 => (sI sc (x3 + 1)).bind fun i372 => (sI sc (x3 + 2)).bind fun i377 => (sI sc (x3 + 3)).bind fun i382 => (sI sc (x3 + 4)).bind fun i387 => cb (F_X13_way a2 i372 i377 i382 i387 w364) fun i388 w388 =>if i364 = i388 then (F_L_law_J1771 g sc  rc18 a1 a2 x3 w388) else (some (0, w388))) else if (i29 &&& 63) = 4 then ((sI sc (x3 + 1)).bind fun i401 => (sI sc (x3 + 2)).bind fun i406 => (sI sc (x3 + 3)).bind fun i411 => cb (F_X0_wayOf a1 i401 i406 i411 w) fun i412 w412 => (sI sc (x3 + 1)).bind fun i420 => (sI sc (x3 + 2)).bind fun i425 => (sI sc (x3 + 3)).bind fun i430 => cb (F_X13_wayOf a2 i420 i425 i430 w412) fun i431 w431 =>if i412 = i431 then (F_L_law_J1771 g sc  rc18 a1 a2 x3 w431) else (some (0, w431))) else if (i29 &&& 63) = 5 then ((sI sc (x3 + 1)).bind fun i444 => (sI sc (x3 + 2)).bind fun i449 => (sI sc (x3 + 3)).bind fun i454 => cb (F_X0_errand a1 i444 i449 i454 w) fun i455 w455 => (sI sc (x3 + 1)).bind fun i463 => (sI sc (x3 + 2)).bind fun i468 => (sI sc (x3 + 3)).bind fun i473 => cb (F_X13_errand a2 i463 i468 i473 w455) fun i474 w474 =>if i455 = i474 then (F_L_law_J1771 g sc  rc18 a1 a2 x3 w474) else (some (0, w474))) else if (i29 &&& 63) = 6 then ((sI sc (x3 + 1)).bind fun i487 => (sI sc (x3 + 2)).bind fun i492 => cb (F_X0_errandOf a1 i487 i492 w) fun i493 w493 => (sI sc (x3 + 1)).bind fun i501 => (sI sc (x3 + 2)).bind fun i506 => cb (F_X13_errandOf a2 i501 i506 w493) fun i507 w507 =>if i493 = i507 then (F_L_law_J1771 g sc  rc18 a1 a2 x3 w507) else (some (0, w507))) else if (i29 &&& 63) = 7 then ((sI sc (x3 + 1)).bind fun i520 => cb (F_X0_ware a1 i520 w) fun i521 w521 => (sI sc (x3 + 1)).bind fun i529 => cb (F_X13_ware a2 i529 w521) fun i530 w530 =>if i521 = i530 then (F_L_law_J1771 g sc  rc18 a1 a2 x3 w530) else (some (0, w530))) else if (i29 &&& 63) = 8 then ((sI sc (x3 + 1)).bind fun i543 => (sI sc (x3 + 2)).bind fun i548 => cb (F_X0_wareOf a1 i543 i548 w) fun i549 w549 => (sI sc (x3 + 1)).bind fun i557 => (sI sc (x3 + 2)).bind fun i562 => cb (F_X13_wareOf a2 i557 i562 w549) fun i563 w563 =>if i549 = i563 then (F_L_law_J1771 g sc  rc18 a1 a2 x3 w563) else (some (0, w563))) else if (i29 &&& 63) = 9 then ((sI sc (x3 + 1)).bind fun i576 => (sI sc (x3 + 2)).bind fun i581 => (sI sc (x3 + 3)).bind fun i586 => cb (F_X0_far a1 i576 i581 i586 w) fun i587 w587 => (sI sc (x3 + 1)).bind fun i595 => (sI sc (x3 + 2)).bind fun i600 => (sI sc (x3 + 3)).bind fun i605 => cb (F_X13_far a2 i595 i600 i605 w587) fun i606 w606 =>if i587 = i606 then (F_L_law_J1771 g sc  rc18 a1 a2 x3 w606) else (some (0, w606))) else if (i29 &&& 63) = 10 then ((sI sc (x3 + 1)).bind fun i619 => (sI sc (x3 + 2)).bind fun i624 => cb (F_X0_first a1 i619 i624 w) fun i625 w625 => (sI sc (x3 + 1)).bind fun i633 => (sI sc (x3 + 2)).bind fun i638 => cb (F_X13_first a2 i633 i638 w625) fun i639 w639 =>if i625 = i639 then (F_L_law_J1771 g sc  rc18 a1 a2 x3 w639) else (some (0, w639))) else if (i29 &&& 63) = 11 then ((sI sc (x3 + 1)).bind fun i652 => (sI sc (x3 + 2)).bind fun i657 => cb (F_X0_take a1 i652 i657 w) fun i658 w658 => (sI sc (x3 + 1)).bind fun i666 => (sI sc (x3 + 2)).bind fun i671 => cb (F_X13_take a2 i666 i671 w658) fun i672 w672 =>if i658 = i672 then (F_L_law_J1771 g sc  rc18 a1 a2 x3 w672) else (some (0, w672))) else if (i29 &&& 63) = 12 then ((sI sc (x3 + 1)).bind fun i685 => (sI sc (x3 + 2)).bind fun i690 => cb (F_X0_drop a1 i685 i690 w) fun i691 w691 => (sI sc (x3 + 1)).bind fun i699 => (sI sc (x3 + 2)).bind fun i704 => cb (F_X13_drop a2 i699 i704 w691) fun i705 w705 =>if i691 = i705 then (F_L_law_J1771 g sc  rc18 a1 a2 x3 w705) else (some (0, w705))) else if (i29 &&& 63) = 13 then ((sI sc (x3 + 1)).bind fun i718 => (sI sc (x3 + 2)).bind fun i723 => cb (F_X0_walk a1 i718 i723 w) fun i724 w724 => (sI sc (x3 + 1)).bind fun i732 => (sI sc (x3 + 2)).bind fun i737 => cb (F_X13_walk a2 i732 i737 w724) fun i738 w738 =>if i724 = i738 then (F_L_law_J1771 g sc  rc18 a1 a2 x3 w738) else (some (0, w738))) else if (i29 &&& 63) = 14 then ((sI sc (x3 + 1)).bind fun i751 => (sI sc (x3 + 2)).bind fun i756 => cb (F_X0_buy a1 i751 i756 w) fun i757 w757 => (sI sc (x3 + 1)).bind fun i765 => (sI sc (x3 + 2)).bind fun i770 => cb (F_X13_buy a2 i765 i770 w757) fun i771 w771 =>if i757 = i771 then (F_L_law_J1771 g sc  rc18 a1 a2 x3 w771) else (some (0, w771))) else if (i29 &&& 63) = 15 then ((sI sc (x3 + 1)).bind fun i784 => cb (F_X0_now a1 i784 w) fun i785 w785 => (sI sc (x3 + 1)).bind fun i793 => cb (F_X13_now a2 i793 w785) fun i794 w794 =>if i785 = i794 then (F_L_law_J1771 g sc  rc18 a1 a2 x3 w794) else (some (0, w794))) else if (i29 &&& 63) = 16 then ((sI sc (x3 + 1)).bind fun i807 => (sI sc (x3 + 2)).bind fun i812 => cb (F_X0_round a1 i807 i812 w) fun i813 w813 => (sI sc (x3 + 1)).bind fun i821 => (sI sc (x3 + 2)).bind fun i826 => cb (F_X13_round a2 i821 i826 w813) fun i827 w827 =>if i813 = i827 then (F_L_law_J1771 g sc  rc18 a1 a2 x3 w827) else (some (0, w827))) else if (i29 &&& 63) = 17 then ((sI sc (x3 + 1)).bind fun i840 => (sI sc (x3 + 2)).bind fun i845 => cb (F_X0_gets a1 i840 i845 w) fun i846 w846 => (sI sc (x3 + 1)).bind fun i854 => (sI sc (x3 + 2)).bind fun i859 => cb (F_X13_gets a2 i854 i859 w846) fun i860 w860 =>if i846 = i860 then (F_L_law_J1771 g sc  rc18 a1 a2 x3 w860) else (some (0, w860))) else if (i29 &&& 63) = 18 then ((sI sc (x3 + 1)).bind fun i873 => (sI sc (x3 + 2)).bind fun i878 => cb (F_X0_cheapest a1 i873 i878 w) fun i879 w879 => (sI sc (x3 + 1)).bind fun i887 => (sI sc (x3 + 2)).bind fun i892 => cb (F_X13_cheapest a2 i887 i892 w879) fun i893 w893 =>if i879 = i893 then (F_L_law_J1771 g sc  rc18 a1 a2 x3 w893) else (some (0, w893))) else if (i29 &&& 63) = 19 then ((sI sc (x3 + 1)).bind fun i906 => (sI sc (x3 + 2)).bind fun i911 => cb (F_X0_which a1 i906 i911 w) fun i912 w912 => (sI sc (x3 + 1)).bind fun i920 => (sI sc (x3 + 2)).bind fun i925 => cb (F_X13_which a2 i920 i925 w912) fun i926 w926 =>if i912 = i926 then (F_L_law_J1771 g sc  rc18 a1 a2 x3 w926) else (some (0, w926))) else if (i29 &&& 63) = 20 then ((sI sc (x3 + 1)).bind fun i939 => cb (F_X0_who a1 i939 w) fun i940 w940 => (sI sc (x3 + 1)).bind fun i948 => cb (F_X13_who a2 i948 w940) fun i949 w949 =>if i940 = i949 then (F_L_law_J1771 g sc  rc18 a1 a2 x3 w949) else (some (0, w949))) else if (i29 &&& 63) = 21 then ((sI sc (x3 + 1)).bind fun i962 => (sI sc (x3 + 2)).bind fun i967 => cb (F_X0_joined a1 i962 i967 w) fun i968 w968 => (sI sc (x3 + 1)).bind fun i976 => (sI sc (x3 + 2)).bind fun i981 => cb (F_X13_joined a2 i976 i981 w968) fun i982 w982 =>if i968 = i982 then (F_L_law_J1771 g sc  rc18 a1 a2 x3 w982) else (some (0, w982))) else if (i29 &&& 63) = 22 then ((sI sc (x3 + 1)).bind fun i995 => (sI sc (x3 + 2)).bind fun i1000 => (sI sc (x3 + 3)).bind fun i1005 => cb (F_X0_shared a1 i995 i1000 i1005 w) fun i1006 w1006 => (sI sc (x3 + 1)).bind fun i1014 => (sI sc (x3 + 2)).bind fun i1019 => (sI sc (x3 + 3)).bind fun i1024 => cb (F_X13_shared a2 i1014 i1019 i1024 w1006) fun i1025 w1025 =>if i1006 = i1025 then (F_L_law_J1771 g sc  rc18 a1 a2 x3 w1025) else (some (0, w1025))) else if (i29 &&& 63) = 23 then ((sI sc (x3 + 1)).bind fun i1038 => (sI sc (x3 + 2)).bind fun i1043 => (sI sc (x3 + 3)).bind fun i1048 => cb (F_X0_part a1 i1038 i1043 i1048 w) fun i1049 w1049 => (sI sc (x3 + 1)).bind fun i1057 => (sI sc (x3 + 2)).bind fun i1062 => (sI sc (x3 + 3)).bind fun i1067 => cb (F_X13_part a2 i1057 i1062 i1067 w1049) fun i1068 w1068 =>if i1049 = i1068 then (F_L_law_J1771 g sc  rc18 a1 a2 x3 w1068) else (some (0, w1068))) else if (i29 &&& 63) = 24 then ((sI sc (x3 + 1)).bind fun i1081 => (sI sc (x3 + 2)).bind fun i1086 => cb (F_X0_strength a1 i1081 i1086 w) fun i1087 w1087 => (sI sc (x3 + 1)).bind fun i1095 => (sI sc (x3 + 2)).bind fun i1100 => cb (F_X13_strength a2 i1095 i1100 w1087) fun i1101 w1101 =>if i1087 = i1101 then (F_L_law_J1771 g sc  rc18 a1 a2 x3 w1101) else (some (0, w1101))) else if (i29 &&& 63) = 25 then ((sI sc (x3 + 1)).bind fun i1114 => (sI sc (x3 + 2)).bind fun i1119 => cb (F_X0_kindFor a1 i1114 i1119 w) fun i1120 w1120 => (sI sc (x3 + 1)).bind fun i1128 => (sI sc (x3 + 2)).bind fun i1133 => cb (F_X13_kindFor a2 i1128 i1133 w1120) fun i1134 w1134 =>if i1120 = i1134 then (F_L_law_J1771 g sc  rc18 a1 a2 x3 w1134) else (some (0, w1134))) else if (i29 &&& 63) = 26 then ((sI sc (x3 + 1)).bind fun i1147 => (sI sc (x3 + 2)).bind fun i1152 => cb (F_X0_bridge a1 i1147 i1152 w) fun i1153 w1153 => (sI sc (x3 + 1)).bind fun i1161 => (sI sc (x3 + 2)).bind fun i1166 => cb (F_X13_bridge a2 i1161 i1166 w1153) fun i1167 w1167 =>if i1153 = i1167 then (F_L_law_J1771 g sc  rc18 a1 a2 x3 w1167) else (some (0, w1167))) else if (i29 &&& 63) = 27 then ((sI sc (x3 + 1)).bind fun i1180 => (sI sc (x3 + 2)).bind fun i1185 => cb (F_X0_worth a1 i1180 i1185 w) fun i1186 w1186 => (sI sc (x3 + 1)).bind fun i1194 => (sI sc (x3 + 2)).bind fun i1199 => cb (F_X13_worth a2 i1194 i1199 w1186) fun i1200 w1200 =>if i1186 = i1200 then (F_L_law_J1771 g sc  rc18 a1 a2 x3 w1200) else (some (0, w1200))) else if (i29 &&& 63) = 28 then ((sI sc (x3 + 1)).bind fun i1213 => cb (F_X0_reach a1 i1213 w) fun i1214 w1214 => (sI sc (x3 + 1)).bind fun i1222 => cb (F_X13_reach a2 i1222 w1214) fun i1223 w1223 =>if i1214 = i1223 then (F_L_law_J1771 g sc  rc18 a1 a2 x3 w1223) else (some (0, w1223))) else if (i29 &&& 63) = 29 then ((sI sc (x3 + 1)).bind fun i1236 => cb (F_X0_middle a1 i1236 w) fun i1237 w1237 => (sI sc (x3 + 1)).bind fun i1245 => cb (F_X13_middle a2 i1245 w1237) fun i1246 w1246 =>if i1237 = i1246 then (F_L_law_J1771 g sc  rc18 a1 a2 x3 w1246) else (some (0, w1246))) else if (i29 &&& 63) = 30 then ((sI sc (x3 + 1)).bind fun i1259 => (sI sc (x3 + 2)).bind fun i1264 => cb (F_X0_heavy a1 i1259 i1264 w) fun i1265 w1265 => (sI sc (x3 + 1)).bind fun i1273 => (sI sc (x3 + 2)).bind fun i1278 => cb (F_X13_heavy a2 i1273 i1278 w1265) fun i1279 w1279 =>if i1265 = i1279 then (F_L_law_J1771 g sc  rc18 a1 a2 x3 w1279) else (some (0, w1279))) else if (i29 &&& 63) = 31 then ((sI sc (x3 + 1)).bind fun i1292 => cb (F_X0_day a1 i1292 w) fun i1293 w1293 => (sI sc (x3 + 1)).bind fun i1301 => cb (F_X13_day a2 i1301 w1293) fun i1302 w1302 =>if i1293 = i1302 then (F_L_law_J1771 g sc  rc18 a1 a2 x3 w1302) else (some (0, w1302))) else if (i29 &&& 63) = 32 then ((sI sc (x3 + 1)).bind fun i1315 => cb (F_X0_ahead a1 i1315 w) fun i1316 w1316 => (sI sc (x3 + 1)).bind fun i1324 => cb (F_X13_ahead a2 i1324 w1316) fun i1325 w1325 =>if i1316 = i1325 then (F_L_law_J1771 g sc  rc18 a1 a2 x3 w1325) else (some (0, w1325))) else if (i29 &&& 63) = 33 then ((sI sc (x3 + 1)).bind fun i1338 => cb (F_X0_seed a1 i1338 w) fun i1339 w1339 => (sI sc (x3 + 1)).bind fun i1347 => cb (F_X13_seed a2 i1347 w1339) fun i1348 w1348 =>if i1339 = i1348 then (F_L_law_J1771 g sc  rc18 a1 a2 x3 w1348) else (some (0, w1348))) else if (i29 &&& 63) = 34 then ((sI sc (x3 + 1)).bind fun i1361 => (sI sc (x3 + 2)).bind fun i1366 => cb (F_X0_feed a1 i1361 i1366 w) fun i1367 w1367 => (sI sc (x3 + 1)).bind fun i1375 => (sI sc (x3 + 2)).bind fun i1380 => cb (F_X13_feed a2 i1375 i1380 w1367) fun i1381 w1381 =>if i1367 = i1381 then (F_L_law_J1771 g sc  rc18 a1 a2 x3 w1381) else (some (0, w1381))) else if (i29 &&& 63) = 35 then (cb (F_X0_wipe a1 w) fun i1390 w1390 => cb (F_X13_wipe a2 w1390) fun i1394 w1394 =>if i1390 = i1394 then (F_L_law_J1771 g sc  rc18 a1 a2 x3 w1394) else (some (0, w1394))) else if (i29 &&& 63) = 36 then (cb (F_X0_text g a1 w) fun i1403 w1403 => cb (F_X13_text g a2 w1403) fun i1407 w1407 =>if i1403 = i1407 then (F_L_law_J1771 g sc  rc18 a1 a2 x3 w1407) else (some (0, w1407))) else if (i29 &&& 63) = 37 then ((sI sc (x3 + 1)).bind fun i1420 => (sI sc (x3 + 2)).bind fun i1425 => cb (F_X0_hold a1 i1420 i1425 w) fun i1426 w1426 => (sI sc (x3 + 1)).bind fun i1434 => (sI sc (x3 + 2)).bind fun i1439 => cb (F_X13_hold a2 i1434 i1439 w1426) fun i1440 w1440 =>if i1426 = i1440 then (F_L_law_J1771 g sc  rc18 a1 a2 x3 w1440) else (some (0, w1440))) else if (i29 &&& 63) = 38 then ((sI sc (x3 + 1)).bind fun i1453 => (sI sc (x3 + 2)).bind fun i1458 => cb (F_X0_as a1 i1453 i1458 w) fun i1459 w1459 => (sI sc (x3 + 1)).bind fun i1467 => (sI sc (x3 + 2)).bind fun i1472 => cb (F_X13_as a2 i1467 i1472 w1459) fun i1473 w1473 =>if i1459 = i1473 then (F_L_law_J1771 g sc  rc18 a1 a2 x3 w1473) else (some (0, w1473))) else if (i29 &&& 63) = 39 then ((sI sc (x3 + 1)).bind fun i1486 => (sI sc (x3 + 2)).bind fun i1491 => (sI sc (x3 + 3)).bind fun i1496 => cb (F_X0_sheet a1 i1486 i1491 i1496 w) fun i1497 w1497 => (sI sc (x3 + 1)).bind fun i1505 => (sI sc (x3 + 2)).bind fun i1510 => (sI sc (x3 + 3)).bind fun i1515 => cb (F_X13_sheet a2 i1505 i1510 i1515 w1497) fun i1516 w1516 =>if i1497 = i1516 then (F_L_law_J1771 g sc  rc18 a1 a2 x3 w1516) else (some (0, w1516))) else if (i29 &&& 63) = 40 then ((sI sc (x3 + 1)).bind fun i1529 => (sI sc (x3 + 2)).bind fun i1534 => (sI sc (x3 + 3)).bind fun i1539 => cb (F_X0_write a1 i1529 i1534 i1539 w) fun i1540 w1540 => (sI sc (x3 + 1)).bind fun i1548 => (sI sc (x3 + 2)).bind fun i1553 => (sI sc (x3 + 3)).bind fun i1558 => cb (F_X13_write a2 i1548 i1553 i1558 w1540) fun i1559 w1559 =>if i1540 = i1559 then (F_L_law_J1771 g sc  rc18 a1 a2 x3 w1559) else (some (0, w1559))) else if (i29 &&& 63) = 41 then ((sI sc (x3 + 1)).bind fun i1572 => (sI sc (x3 + 2)).bind fun i1577 => (sI sc (x3 + 3)).bind fun i1582 => (sI sc (x3 + 4)).bind fun i1587 => (sI sc (x3 + 5)).bind fun i1592 => cb (F_X0_copy a1 i1572 i1577 i1582 i1587 i1592 w) fun i1593 w1593 => (sI sc (x3 + 1)).bind fun i1601 => (sI sc (x3 + 2)).bind fun i1606 => (sI sc (x3 + 3)).bind fun i1611 => (sI sc (x3 + 4)).bind fun i1616 => (sI sc (x3 + 5)).bind fun i1621 => cb (F_X13_copy a2 i1601 i1606 i1611 i1616 i1621 w1593) fun i1622 w1622 =>if i1593 = i1622 then (F_L_law_J1771 g sc  rc18 a1 a2 x3 w1622) else (some (0, w1622))) else if (i29 &&& 63) = 42 then ((sI sc (x3 + 1)).bind fun i1635 => cb (F_X0_load_2 a1 i1635 w) fun i1636 w1636 => (sI sc (x3 + 1)).bind fun i1644 => cb (F_X13_load a2 i1644 w1636) fun i1645 w1645 =>if i1636 = i1645 then (F_L_law_J1771 g sc  rc18 a1 a2 x3 w1645) else (some (0, w1645))) else if (i29 &&& 63) = 43 then ((sI sc (x3 + 1)).bind fun i1658 => (sI sc (x3 + 2)).bind fun i1663 => cb (F_X0_judge a1 i1658 i1663 w) fun i1664 w1664 => (sI sc (x3 + 1)).bind fun i1672 => (sI sc (x3 + 2)).bind fun i1677 => cb (F_X13_judge a2 i1672 i1677 w1664) fun i1678 w1678 =>if i1664 = i1678 then (F_L_law_J1771 g sc  rc18 a1 a2 x3 w1678) else (some (0, w1678))) else if (i29 &&& 63) = 44 then (cb (F_X0_image a1 w) fun i1687 w1687 => cb (F_X13_image a2 w1687) fun i1691 w1691 =>if i1687 = i1691 then (F_L_law_J1771 g sc  rc18 a1 a2 x3 w1691) else (some (0, w1691))) else if (i29 &&& 63) = 45 then (cb (F_X0_undo a1 w) fun i1700 w1700 => cb (F_X13_undo a2 w1700) fun i1704 w1704 =>if i1700 = i1704 then (F_L_law_J1771 g sc  rc18 a1 a2 x3 w1704) else (some (0, w1704))) else if (i29 &&& 63) = 46 then (cb (F_X0_tear a1 w) fun i1713 w1713 => cb (F_X13_tear a2 w1713) fun i1717 w1717 =>if i1713 = i1717 then (F_L_law_J1771 g sc  rc18 a1 a2 x3 w1717) else (some (0, w1717))) else if (i29 &&& 63) = 47 then ((sI sc (x3 + 1)).bind fun i1730 => cb (F_X0_count a1 i1730 w) fun i1731 w1731 => (sI sc (x3 + 1)).bind fun i1739 => cb (F_X13_count a2 i1739 w1731) fun i1740 w1740 =>if i1731 = i1740 then (F_L_law_J1771 g sc  rc18 a1 a2 x3 w1740) else (some (0, w1740))) else if (i29 &&& 63) = 48 then ((sI sc (x3 + 1)).bind fun i1753 => cb (F_X0_status a1 i1753 w) fun i1754 w1754 => (sI sc (x3 + 1)).bind fun i1762 => cb (F_X13_status a2 i1762 w1754) fun i1763 w1763 =>if i1754 = i1763 then (F_L_law_J1771 g sc  rc18 a1 a2 x3 w1763) else (some (0, w1763))) else (F_L_law_J1771 g sc  rc18 a1 a2 x3 w))
def F_L_law_L18 (g : Gt) (sc : Nat × (Nat → Int32)) : Nat → Option Nat → Option Nat → Int32 → cH → Option (Int32 × cH)
  | 0, _, _, _, _ => none
  | n9 + 1, a1, a2, x3, w => F_L_law_B18 g sc  (F_L_law_L18 g sc  n9) a1 a2 x3 w
def F_L_law (g : Gt) (sc : Nat × (Nat → Int32)) (a0 : Option Nat) (w : cH) : Option (Int32 × cH) :=
  (some (nO w 0 20 dfX0)).bind fun w0 => (F_X0_init g w.2 w0).bind fun w4 => (some (nO w4 13 30 dfX13)).bind fun w8 => (F_X13_init g w4.2 w8).bind fun w12 => F_L_law_L18 g sc  fu (some w.2) (some w4.2) 0 w12
set_option maxHeartbeats 16000000 in
set_option maxRecDepth 100000 in
theorem J_law {l : Launch} {g : Gt} {x : Xt} {sc : Nat × (Nat → Int32)} (G : Gok g) (B : Bd g x cL_law 4 "CarryFairLaw" (some .boolean)) (hl : x.2.1 = l) (hR : x.2.2.2.1 = room_1) (hX : va_X g.2.1 sc.1 sc.2 g.1 g.1.heap) (hbl : g.2.1 < gb g) (hN : sc.1 ≤ 384) {w : cH} {r9 : Int32} {w9 : cH} (hF : F_L_law g sc (some g.2.1) w = some (r9, w9)) : J g x (.returned (some (.int r9))) w9 601024 7293034 w 0 0 0 [some (va_rf (some g.2.1)), none, none, none] [] := by
  unfold F_L_law at hF
  have lp18 : ∀ (n9 : Nat) (j : Nat) (a1 : Option Nat) (a2 : Option Nat) (w : cH), j ≤ 64 → F_L_law_L18 g sc  n9 a1 a2 (Int32.ofNat (6 * j)) w = some (r9, w9) → J g x (.returned (some (.int r9))) w9 601024 7293034 w (517 + j) (6567 + 40 * j) 18 [some (va_rf (some g.2.1)), some (va_rf a1), some (va_rf a2), some (.int (Int32.ofNat (6 * j)))] [] := by
    intro n9
    induction n9 with
    | zero => intro j a1 a2 w hj hF; cases hF
    | succ n18 ih18 =>
      intro j a1 a2 w hj hF
      have hF : F_L_law_B18 g sc  (F_L_law_L18 g sc  n18) a1 a2 (Int32.ofNat (6 * j)) w = some (r9, w9) := hF
      unfold F_L_law_B18 at hF
      have jb1771 : j + 1 ≤ 64 → ∀ (a1 : Option Nat) (a2 : Option Nat) (w : cH), F_L_law_J1771 g sc  (F_L_law_L18 g sc  n18) a1 a2 (Int32.ofNat (6 * j)) w = some (r9, w9) → J g x (.returned (some (.int r9))) w9 601024 7293034 w (517 + (j + 1)) (6567 + 40 * (j + 1)) 1771 [some (va_rf (some g.2.1)), some (va_rf a1), some (va_rf a2), some (.int (Int32.ofNat (6 * j)))] [] := by
        intro h64 a1 a2 w hF
        unfold F_L_law_J1771 at hF
        refine j_iinc (v := (Int32.ofNat (6 * j)) + 6) (vs' := [some (va_rf (some g.2.1)), some (va_rf a1), some (va_rf a2), some (.int ((Int32.ofNat (6 * j)) + 6))]) B dL_law_1771 (by decide) rfl rfl rfl ?_
        refine j_goto (tgt := 18) B dL_law_1774 (by decide) ?_
        rw [ofN6 j] at hF ⊢
        exact ih18 (j + 1) a1 a2 w h64 hF
      refine j_iload_n B dL_law_18 rfl ?_
      refine j_aload_n B dL_law_19 rfl ?_
      refine j_slen B hX hbl dL_law_20 ?_
      refine j_bipush (v := 6) B dL_law_21 (by decide) ?_
      refine j_isub B dL_law_23 ?_
      refine j_icmp_gt (tgt := 1777) B dL_law_24 (by decide) hF (fun h24 hF => ?_) (fun h24 hF => ?_)
      · refine j_iconst (v := 1) B dL_law_1777 (by decide) ?_
        exact j_lZw B (by decide) rfl dL_law_1778 hF (by omega) (by omega)
      · have hj9 : j + 1 ≤ 64 := lw64 hN hj h24
        refine j_aload_n B dL_law_27 rfl ?_
        refine j_iload_n B dL_law_28 rfl ?_
        refine j_sld B hX hbl dL_law_29 hF (fun i29 hF => ?_)
        refine j_bipush (v := 63) B dL_law_30 (by decide) ?_
        refine j_iand B dL_law_32 ?_
        by_cases t33_0 : (i29 &&& 63) = 0
        · rw [if_pos t33_0] at hF
          refine j_tblIn (tgt := 244) B 0 dL_law_33 t33_0 (by decide) rfl (by decide) ?_
          refine j_aload_n B dL_law_244 rfl ?_
          refine j_aload_n B dL_law_245 rfl ?_
          refine j_iload_n B dL_law_246 rfl ?_
          refine j_iconst (v := 1) B dL_law_247 (by decide) ?_
          refine j_iadd B dL_law_248 ?_
          refine j_sld B hX hbl dL_law_249 hF (fun i249 hF => ?_)
          obtain ⟨i250, w250, e250, hF⟩ := bc hF
          refine j_rV (st2 := [.int i250]) B [.int i249] [] cv_L_13 dL_law_250 hl hR (ct_X0_carrier G e250) (rmOk_mk rfl rfl (Nat.le_of_ble_eq_true rfl) (Nat.le_of_ble_eq_true rfl) (by show _ ≤ 601024; omega) (by show _ ≤ 7293034; omega)) rfl rfl rfl trivial (Nat.le_of_ble_eq_true rfl) ?_
          refine j_aload_n B dL_law_253 rfl ?_
          refine j_aload_n B dL_law_254 rfl ?_
          refine j_iload_n B dL_law_255 rfl ?_
          refine j_iconst (v := 1) B dL_law_256 (by decide) ?_
          refine j_iadd B dL_law_257 ?_
          refine j_sld B hX hbl dL_law_258 hF (fun i258 hF => ?_)
          obtain ⟨i259, w259, e259, hF⟩ := bc hF
          refine j_rV (st2 := [.int i259, .int i250]) B [.int i258] [.int i250] cv_L_17 dL_law_259 hl hR (ct_X13_carrier G e259) (rmOk_mk rfl rfl (Nat.le_of_ble_eq_true rfl) (Nat.le_of_ble_eq_true rfl) (by show _ ≤ 601024; omega) (by show _ ≤ 7293034; omega)) rfl rfl rfl ⟨rfl, trivial⟩ (Nat.le_of_ble_eq_true rfl) ?_
          refine j_icmp_eq (tgt := 1771) B dL_law_262 (by decide) hF (fun h262 hF => ?_) (fun h262 hF => ?_)
          · refine j_widen (k' := 517 + (j + 1)) (n' := 6567 + 40 * (j + 1)) (by omega) (by omega) ?_
            exact jb1771 hj9 a1 a2 w259 hF
          · refine j_iconst (v := 0) B dL_law_265 (by decide) ?_
            exact j_lZw B (by decide) rfl dL_law_266 hF (by omega) (by omega)
        rw [if_neg t33_0] at hF
        by_cases t33_1 : (i29 &&& 63) = 1
        · rw [if_pos t33_1] at hF
          refine j_tblIn (tgt := 267) B 1 dL_law_33 t33_1 (by decide) rfl (by decide) ?_
          refine j_aload_n B dL_law_267 rfl ?_
          refine j_aload_n B dL_law_268 rfl ?_
          refine j_iload_n B dL_law_269 rfl ?_
          refine j_iconst (v := 1) B dL_law_270 (by decide) ?_
          refine j_iadd B dL_law_271 ?_
          refine j_sld B hX hbl dL_law_272 hF (fun i272 hF => ?_)
          refine j_aload_n B dL_law_273 rfl ?_
          refine j_iload_n B dL_law_274 rfl ?_
          refine j_iconst (v := 2) B dL_law_275 (by decide) ?_
          refine j_iadd B dL_law_276 ?_
          refine j_sld B hX hbl dL_law_277 hF (fun i277 hF => ?_)
          obtain ⟨i278, w278, e278, hF⟩ := bc hF
          refine j_rV (st2 := [.int i278]) B [.int i272, .int i277] [] cv_L_18 dL_law_278 hl hR (ct_X0_of G e278) (rmOk_mk rfl rfl (Nat.le_of_ble_eq_true rfl) (Nat.le_of_ble_eq_true rfl) (by show _ ≤ 601024; omega) (by show _ ≤ 7293034; omega)) rfl rfl rfl trivial (Nat.le_of_ble_eq_true rfl) ?_
          refine j_aload_n B dL_law_281 rfl ?_
          refine j_aload_n B dL_law_282 rfl ?_
          refine j_iload_n B dL_law_283 rfl ?_
          refine j_iconst (v := 1) B dL_law_284 (by decide) ?_
          refine j_iadd B dL_law_285 ?_
          refine j_sld B hX hbl dL_law_286 hF (fun i286 hF => ?_)
          refine j_aload_n B dL_law_287 rfl ?_
          refine j_iload_n B dL_law_288 rfl ?_
          refine j_iconst (v := 2) B dL_law_289 (by decide) ?_
          refine j_iadd B dL_law_290 ?_
          refine j_sld B hX hbl dL_law_291 hF (fun i291 hF => ?_)
          obtain ⟨i292, w292, e292, hF⟩ := bc hF
          refine j_rV (st2 := [.int i292, .int i278]) B [.int i286, .int i291] [.int i278] cv_L_22 dL_law_292 hl hR (ct_X13_of G e292) (rmOk_mk rfl rfl (Nat.le_of_ble_eq_true rfl) (Nat.le_of_ble_eq_true rfl) (by show _ ≤ 601024; omega) (by show _ ≤ 7293034; omega)) rfl rfl rfl ⟨rfl, trivial⟩ (Nat.le_of_ble_eq_true rfl) ?_
          refine j_icmp_eq (tgt := 1771) B dL_law_295 (by decide) hF (fun h295 hF => ?_) (fun h295 hF => ?_)
          · refine j_widen (k' := 517 + (j + 1)) (n' := 6567 + 40 * (j + 1)) (by omega) (by omega) ?_
            exact jb1771 hj9 a1 a2 w292 hF
          · refine j_iconst (v := 0) B dL_law_298 (by decide) ?_
            exact j_lZw B (by decide) rfl dL_law_299 hF (by omega) (by omega)
        rw [if_neg t33_1] at hF
        by_cases t33_2 : (i29 &&& 63) = 2
        · rw [if_pos t33_2] at hF
          refine j_tblIn (tgt := 300) B 2 dL_law_33 t33_2 (by decide) rfl (by decide) ?_
          refine j_aload_n B dL_law_300 rfl ?_
          refine j_aload_n B dL_law_301 rfl ?_
          refine j_iload_n B dL_law_302 rfl ?_
          refine j_iconst (v := 1) B dL_law_303 (by decide) ?_
          refine j_iadd B dL_law_304 ?_
          refine j_sld B hX hbl dL_law_305 hF (fun i305 hF => ?_)
          refine j_aload_n B dL_law_306 rfl ?_
          refine j_iload_n B dL_law_307 rfl ?_
          refine j_iconst (v := 2) B dL_law_308 (by decide) ?_
          refine j_iadd B dL_law_309 ?_
          refine j_sld B hX hbl dL_law_310 hF (fun i310 hF => ?_)
          refine j_aload_n B dL_law_311 rfl ?_
          refine j_iload_n B dL_law_312 rfl ?_
          refine j_iconst (v := 3) B dL_law_313 (by decide) ?_
          refine j_iadd B dL_law_314 ?_
          refine j_sld B hX hbl dL_law_315 hF (fun i315 hF => ?_)
          obtain ⟨i316, w316, e316, hF⟩ := bc hF
          refine j_rV (st2 := [.int i316]) B [.int i305, .int i310, .int i315] [] cv_L_23 dL_law_316 hl hR (ct_X0_change G e316) (rmOk_mk rfl rfl (Nat.le_of_ble_eq_true rfl) (Nat.le_of_ble_eq_true rfl) (by show _ ≤ 601024; omega) (by show _ ≤ 7293034; omega)) rfl rfl rfl trivial (Nat.le_of_ble_eq_true rfl) ?_
          refine j_aload_n B dL_law_319 rfl ?_
          refine j_aload_n B dL_law_320 rfl ?_
          refine j_iload_n B dL_law_321 rfl ?_
          refine j_iconst (v := 1) B dL_law_322 (by decide) ?_
          refine j_iadd B dL_law_323 ?_
          refine j_sld B hX hbl dL_law_324 hF (fun i324 hF => ?_)
          refine j_aload_n B dL_law_325 rfl ?_
          refine j_iload_n B dL_law_326 rfl ?_
          refine j_iconst (v := 2) B dL_law_327 (by decide) ?_
          refine j_iadd B dL_law_328 ?_
          refine j_sld B hX hbl dL_law_329 hF (fun i329 hF => ?_)
          refine j_aload_n B dL_law_330 rfl ?_
          refine j_iload_n B dL_law_331 rfl ?_
          refine j_iconst (v := 3) B dL_law_332 (by decide) ?_
          refine j_iadd B dL_law_333 ?_
          refine j_sld B hX hbl dL_law_334 hF (fun i334 hF => ?_)
          obtain ⟨i335, w335, e335, hF⟩ := bc hF
          refine j_rV (st2 := [.int i335, .int i316]) B [.int i324, .int i329, .int i334] [.int i316] cv_L_27 dL_law_335 hl hR (ct_X13_change G e335) (rmOk_mk rfl rfl (Nat.le_of_ble_eq_true rfl) (Nat.le_of_ble_eq_true rfl) (by show _ ≤ 601024; omega) (by show _ ≤ 7293034; omega)) rfl rfl rfl ⟨rfl, trivial⟩ (Nat.le_of_ble_eq_true rfl) ?_
          refine j_icmp_eq (tgt := 1771) B dL_law_338 (by decide) hF (fun h338 hF => ?_) (fun h338 hF => ?_)
          · refine j_widen (k' := 517 + (j + 1)) (n' := 6567 + 40 * (j + 1)) (by omega) (by omega) ?_
            exact jb1771 hj9 a1 a2 w335 hF
          · refine j_iconst (v := 0) B dL_law_341 (by decide) ?_
            exact j_lZw B (by decide) rfl dL_law_342 hF (by omega) (by omega)
        rw [if_neg t33_2] at hF
        by_cases t33_3 : (i29 &&& 63) = 3
        · rw [if_pos t33_3] at hF
          refine j_tblIn (tgt := 343) B 3 dL_law_33 t33_3 (by decide) rfl (by decide) ?_
          refine j_aload_n B dL_law_343 rfl ?_
          refine j_aload_n B dL_law_344 rfl ?_
          refine j_iload_n B dL_law_345 rfl ?_
          refine j_iconst (v := 1) B dL_law_346 (by decide) ?_
          refine j_iadd B dL_law_347 ?_
          refine j_sld B hX hbl dL_law_348 hF (fun i348 hF => ?_)
          refine j_aload_n B dL_law_349 rfl ?_
          refine j_iload_n B dL_law_350 rfl ?_
          refine j_iconst (v := 2) B dL_law_351 (by decide) ?_
          refine j_iadd B dL_law_352 ?_
          refine j_sld B hX hbl dL_law_353 hF (fun i353 hF => ?_)
          refine j_aload_n B dL_law_354 rfl ?_
          refine j_iload_n B dL_law_355 rfl ?_
          refine j_iconst (v := 3) B dL_law_356 (by decide) ?_
          refine j_iadd B dL_law_357 ?_
          refine j_sld B hX hbl dL_law_358 hF (fun i358 hF => ?_)
          refine j_aload_n B dL_law_359 rfl ?_
          refine j_iload_n B dL_law_360 rfl ?_
          refine j_iconst (v := 4) B dL_law_361 (by decide) ?_
          refine j_iadd B dL_law_362 ?_
          refine j_sld B hX hbl dL_law_363 hF (fun i363 hF => ?_)
          obtain ⟨i364, w364, e364, hF⟩ := bc hF
          refine j_rV (st2 := [.int i364]) B [.int i348, .int i353, .int i358, .int i363] [] cv_L_28 dL_law_364 hl hR (ct_X0_way G e364) (rmOk_mk rfl rfl (Nat.le_of_ble_eq_true rfl) (Nat.le_of_ble_eq_true rfl) (by show _ ≤ 601024; omega) (by show _ ≤ 7293034; omega)) rfl rfl rfl trivial (Nat.le_of_ble_eq_true rfl) ?_
          refine j_aload_n B dL_law_367 rfl ?_
          refine j_aload_n B dL_law_368 rfl ?_
          refine j_iload_n B dL_law_369 rfl ?_
          refine j_iconst (v := 1) B dL_law_370 (by decide) ?_
          refine j_iadd B dL_law_371 ?_
          refine j_sld B hX hbl dL_law_372 hF (fun i372 hF => ?_)
          refine j_aload_n B dL_law_373 rfl ?_
          refine j_iload_n B dL_law_374 rfl ?_
          refine j_iconst (v := 2) B dL_law_375 (by decide) ?_
          refine j_iadd B dL_law_376 ?_
          refine j_sld B hX hbl dL_law_377 hF (fun i377 hF => ?_)
          refine j_aload_n B dL_law_378 rfl ?_
          refine j_iload_n B dL_law_379 rfl ?_
          refine j_iconst (v := 3) B dL_law_380 (by decide) ?_
          refine j_iadd B dL_law_381 ?_
          refine j_sld B hX hbl dL_law_382 hF (fun i382 hF => ?_)
          refine j_aload_n B dL_law_383 rfl ?_
          refine j_iload_n B dL_law_384 rfl ?_
          refine j_iconst (v := 4) B dL_law_385 (by decide) ?_
          refine j_iadd B dL_law_386 ?_
          refine j_sld B hX hbl dL_law_387 hF (fun i387 hF => ?_)
          obtain ⟨i388, w388, e388, hF⟩ := bc hF
          refine j_rV (st2 := [.int i388, .int i364]) B [.int i372, .int i377, .int i382, .int i387] [.int i364] cv_L_32 dL_law_388 hl hR (ct_X13_way G e388) (rmOk_mk rfl rfl (Nat.le_of_ble_eq_true rfl) (Nat.le_of_ble_eq_true rfl) (by show _ ≤ 601024; omega) (by show _ ≤ 7293034; omega)) rfl rfl rfl ⟨rfl, trivial⟩ (Nat.le_of_ble_eq_true rfl) ?_
          refine j_icmp_eq (tgt := 1771) B dL_law_391 (by decide) hF (fun h391 hF => ?_) (fun h391 hF => ?_)
          · refine j_widen (k' := 517 + (j + 1)) (n' := 6567 + 40 * (j + 1)) (by omega) (by omega) ?_
            exact jb1771 hj9 a1 a2 w388 hF
          · refine j_iconst (v := 0) B dL_law_394 (by decide) ?_
            exact j_lZw B (by decide) rfl dL_law_395 hF (by omega) (by omega)
        rw [if_neg t33_3] at hF
        by_cases t33_4 : (i29 &&& 63) = 4
        · rw [if_pos t33_4] at hF
          refine j_tblIn (tgt := 396) B 4 dL_law_33 t33_4 (by decide) rfl (by decide) ?_
          refine j_aload_n B dL_law_396 rfl ?_
          refine j_aload_n B dL_law_397 rfl ?_
          refine j_iload_n B dL_law_398 rfl ?_
          refine j_iconst (v := 1) B dL_law_399 (by decide) ?_
          refine j_iadd B dL_law_400 ?_
          refine j_sld B hX hbl dL_law_401 hF (fun i401 hF => ?_)
          refine j_aload_n B dL_law_402 rfl ?_
          refine j_iload_n B dL_law_403 rfl ?_
          refine j_iconst (v := 2) B dL_law_404 (by decide) ?_
          refine j_iadd B dL_law_405 ?_
          refine j_sld B hX hbl dL_law_406 hF (fun i406 hF => ?_)
          refine j_aload_n B dL_law_407 rfl ?_
          refine j_iload_n B dL_law_408 rfl ?_
          refine j_iconst (v := 3) B dL_law_409 (by decide) ?_
          refine j_iadd B dL_law_410 ?_
          refine j_sld B hX hbl dL_law_411 hF (fun i411 hF => ?_)
          obtain ⟨i412, w412, e412, hF⟩ := bc hF
          refine j_rV (st2 := [.int i412]) B [.int i401, .int i406, .int i411] [] cv_L_33 dL_law_412 hl hR (ct_X0_wayOf G e412) (rmOk_mk rfl rfl (Nat.le_of_ble_eq_true rfl) (Nat.le_of_ble_eq_true rfl) (by show _ ≤ 601024; omega) (by show _ ≤ 7293034; omega)) rfl rfl rfl trivial (Nat.le_of_ble_eq_true rfl) ?_
          refine j_aload_n B dL_law_415 rfl ?_
          refine j_aload_n B dL_law_416 rfl ?_
          refine j_iload_n B dL_law_417 rfl ?_
          refine j_iconst (v := 1) B dL_law_418 (by decide) ?_
          refine j_iadd B dL_law_419 ?_
          refine j_sld B hX hbl dL_law_420 hF (fun i420 hF => ?_)
          refine j_aload_n B dL_law_421 rfl ?_
          refine j_iload_n B dL_law_422 rfl ?_
          refine j_iconst (v := 2) B dL_law_423 (by decide) ?_
          refine j_iadd B dL_law_424 ?_
          refine j_sld B hX hbl dL_law_425 hF (fun i425 hF => ?_)
          refine j_aload_n B dL_law_426 rfl ?_
          refine j_iload_n B dL_law_427 rfl ?_
          refine j_iconst (v := 3) B dL_law_428 (by decide) ?_
          refine j_iadd B dL_law_429 ?_
          refine j_sld B hX hbl dL_law_430 hF (fun i430 hF => ?_)
          obtain ⟨i431, w431, e431, hF⟩ := bc hF
          refine j_rV (st2 := [.int i431, .int i412]) B [.int i420, .int i425, .int i430] [.int i412] cv_L_36 dL_law_431 hl hR (ct_X13_wayOf G e431) (rmOk_mk rfl rfl (Nat.le_of_ble_eq_true rfl) (Nat.le_of_ble_eq_true rfl) (by show _ ≤ 601024; omega) (by show _ ≤ 7293034; omega)) rfl rfl rfl ⟨rfl, trivial⟩ (Nat.le_of_ble_eq_true rfl) ?_
          refine j_icmp_eq (tgt := 1771) B dL_law_434 (by decide) hF (fun h434 hF => ?_) (fun h434 hF => ?_)
          · refine j_widen (k' := 517 + (j + 1)) (n' := 6567 + 40 * (j + 1)) (by omega) (by omega) ?_
            exact jb1771 hj9 a1 a2 w431 hF
          · refine j_iconst (v := 0) B dL_law_437 (by decide) ?_
            exact j_lZw B (by decide) rfl dL_law_438 hF (by omega) (by omega)
        rw [if_neg t33_4] at hF
        by_cases t33_5 : (i29 &&& 63) = 5
        · rw [if_pos t33_5] at hF
          refine j_tblIn (tgt := 439) B 5 dL_law_33 t33_5 (by decide) rfl (by decide) ?_
          refine j_aload_n B dL_law_439 rfl ?_
          refine j_aload_n B dL_law_440 rfl ?_
          refine j_iload_n B dL_law_441 rfl ?_
          refine j_iconst (v := 1) B dL_law_442 (by decide) ?_
          refine j_iadd B dL_law_443 ?_
          refine j_sld B hX hbl dL_law_444 hF (fun i444 hF => ?_)
          refine j_aload_n B dL_law_445 rfl ?_
          refine j_iload_n B dL_law_446 rfl ?_
          refine j_iconst (v := 2) B dL_law_447 (by decide) ?_
          refine j_iadd B dL_law_448 ?_
          refine j_sld B hX hbl dL_law_449 hF (fun i449 hF => ?_)
          refine j_aload_n B dL_law_450 rfl ?_
          refine j_iload_n B dL_law_451 rfl ?_
          refine j_iconst (v := 3) B dL_law_452 (by decide) ?_
          refine j_iadd B dL_law_453 ?_
          refine j_sld B hX hbl dL_law_454 hF (fun i454 hF => ?_)
          obtain ⟨i455, w455, e455, hF⟩ := bc hF
          refine j_rV (st2 := [.int i455]) B [.int i444, .int i449, .int i454] [] cv_L_37 dL_law_455 hl hR (ct_X0_errand G e455) (rmOk_mk rfl rfl (Nat.le_of_ble_eq_true rfl) (Nat.le_of_ble_eq_true rfl) (by show _ ≤ 601024; omega) (by show _ ≤ 7293034; omega)) rfl rfl rfl trivial (Nat.le_of_ble_eq_true rfl) ?_
          refine j_aload_n B dL_law_458 rfl ?_
          refine j_aload_n B dL_law_459 rfl ?_
          refine j_iload_n B dL_law_460 rfl ?_
          refine j_iconst (v := 1) B dL_law_461 (by decide) ?_
          refine j_iadd B dL_law_462 ?_
          refine j_sld B hX hbl dL_law_463 hF (fun i463 hF => ?_)
          refine j_aload_n B dL_law_464 rfl ?_
          refine j_iload_n B dL_law_465 rfl ?_
          refine j_iconst (v := 2) B dL_law_466 (by decide) ?_
          refine j_iadd B dL_law_467 ?_
          refine j_sld B hX hbl dL_law_468 hF (fun i468 hF => ?_)
          refine j_aload_n B dL_law_469 rfl ?_
          refine j_iload_n B dL_law_470 rfl ?_
          refine j_iconst (v := 3) B dL_law_471 (by decide) ?_
          refine j_iadd B dL_law_472 ?_
          refine j_sld B hX hbl dL_law_473 hF (fun i473 hF => ?_)
          obtain ⟨i474, w474, e474, hF⟩ := bc hF
          refine j_rV (st2 := [.int i474, .int i455]) B [.int i463, .int i468, .int i473] [.int i455] cv_L_40 dL_law_474 hl hR (ct_X13_errand G e474) (rmOk_mk rfl rfl (Nat.le_of_ble_eq_true rfl) (Nat.le_of_ble_eq_true rfl) (by show _ ≤ 601024; omega) (by show _ ≤ 7293034; omega)) rfl rfl rfl ⟨rfl, trivial⟩ (Nat.le_of_ble_eq_true rfl) ?_
          refine j_icmp_eq (tgt := 1771) B dL_law_477 (by decide) hF (fun h477 hF => ?_) (fun h477 hF => ?_)
          · refine j_widen (k' := 517 + (j + 1)) (n' := 6567 + 40 * (j + 1)) (by omega) (by omega) ?_
            exact jb1771 hj9 a1 a2 w474 hF
          · refine j_iconst (v := 0) B dL_law_480 (by decide) ?_
            exact j_lZw B (by decide) rfl dL_law_481 hF (by omega) (by omega)
        rw [if_neg t33_5] at hF
        by_cases t33_6 : (i29 &&& 63) = 6
        · rw [if_pos t33_6] at hF
          refine j_tblIn (tgt := 482) B 6 dL_law_33 t33_6 (by decide) rfl (by decide) ?_
          refine j_aload_n B dL_law_482 rfl ?_
          refine j_aload_n B dL_law_483 rfl ?_
          refine j_iload_n B dL_law_484 rfl ?_
          refine j_iconst (v := 1) B dL_law_485 (by decide) ?_
          refine j_iadd B dL_law_486 ?_
          refine j_sld B hX hbl dL_law_487 hF (fun i487 hF => ?_)
          refine j_aload_n B dL_law_488 rfl ?_
          refine j_iload_n B dL_law_489 rfl ?_
          refine j_iconst (v := 2) B dL_law_490 (by decide) ?_
          refine j_iadd B dL_law_491 ?_
          refine j_sld B hX hbl dL_law_492 hF (fun i492 hF => ?_)
          obtain ⟨i493, w493, e493, hF⟩ := bc hF
          refine j_rV (st2 := [.int i493]) B [.int i487, .int i492] [] cv_L_41 dL_law_493 hl hR (ct_X0_errandOf G e493) (rmOk_mk rfl rfl (Nat.le_of_ble_eq_true rfl) (Nat.le_of_ble_eq_true rfl) (by show _ ≤ 601024; omega) (by show _ ≤ 7293034; omega)) rfl rfl rfl trivial (Nat.le_of_ble_eq_true rfl) ?_
          refine j_aload_n B dL_law_496 rfl ?_
          refine j_aload_n B dL_law_497 rfl ?_
          refine j_iload_n B dL_law_498 rfl ?_
          refine j_iconst (v := 1) B dL_law_499 (by decide) ?_
          refine j_iadd B dL_law_500 ?_
          refine j_sld B hX hbl dL_law_501 hF (fun i501 hF => ?_)
          refine j_aload_n B dL_law_502 rfl ?_
          refine j_iload_n B dL_law_503 rfl ?_
          refine j_iconst (v := 2) B dL_law_504 (by decide) ?_
          refine j_iadd B dL_law_505 ?_
          refine j_sld B hX hbl dL_law_506 hF (fun i506 hF => ?_)
          obtain ⟨i507, w507, e507, hF⟩ := bc hF
          refine j_rV (st2 := [.int i507, .int i493]) B [.int i501, .int i506] [.int i493] cv_L_44 dL_law_507 hl hR (ct_X13_errandOf G e507) (rmOk_mk rfl rfl (Nat.le_of_ble_eq_true rfl) (Nat.le_of_ble_eq_true rfl) (by show _ ≤ 601024; omega) (by show _ ≤ 7293034; omega)) rfl rfl rfl ⟨rfl, trivial⟩ (Nat.le_of_ble_eq_true rfl) ?_
          refine j_icmp_eq (tgt := 1771) B dL_law_510 (by decide) hF (fun h510 hF => ?_) (fun h510 hF => ?_)
          · refine j_widen (k' := 517 + (j + 1)) (n' := 6567 + 40 * (j + 1)) (by omega) (by omega) ?_
            exact jb1771 hj9 a1 a2 w507 hF
          · refine j_iconst (v := 0) B dL_law_513 (by decide) ?_
            exact j_lZw B (by decide) rfl dL_law_514 hF (by omega) (by omega)
        rw [if_neg t33_6] at hF
        by_cases t33_7 : (i29 &&& 63) = 7
        · rw [if_pos t33_7] at hF
          refine j_tblIn (tgt := 515) B 7 dL_law_33 t33_7 (by decide) rfl (by decide) ?_
          refine j_aload_n B dL_law_515 rfl ?_
          refine j_aload_n B dL_law_516 rfl ?_
          refine j_iload_n B dL_law_517 rfl ?_
          refine j_iconst (v := 1) B dL_law_518 (by decide) ?_
          refine j_iadd B dL_law_519 ?_
          refine j_sld B hX hbl dL_law_520 hF (fun i520 hF => ?_)
          obtain ⟨i521, w521, e521, hF⟩ := bc hF
          refine j_rV (st2 := [.int i521]) B [.int i520] [] cv_L_45 dL_law_521 hl hR (ct_X0_ware G e521) (rmOk_mk rfl rfl (Nat.le_of_ble_eq_true rfl) (Nat.le_of_ble_eq_true rfl) (by show _ ≤ 601024; omega) (by show _ ≤ 7293034; omega)) rfl rfl rfl trivial (Nat.le_of_ble_eq_true rfl) ?_
          refine j_aload_n B dL_law_524 rfl ?_
          refine j_aload_n B dL_law_525 rfl ?_
          refine j_iload_n B dL_law_526 rfl ?_
          refine j_iconst (v := 1) B dL_law_527 (by decide) ?_
          refine j_iadd B dL_law_528 ?_
          refine j_sld B hX hbl dL_law_529 hF (fun i529 hF => ?_)
          obtain ⟨i530, w530, e530, hF⟩ := bc hF
          refine j_rV (st2 := [.int i530, .int i521]) B [.int i529] [.int i521] cv_L_48 dL_law_530 hl hR (ct_X13_ware G e530) (rmOk_mk rfl rfl (Nat.le_of_ble_eq_true rfl) (Nat.le_of_ble_eq_true rfl) (by show _ ≤ 601024; omega) (by show _ ≤ 7293034; omega)) rfl rfl rfl ⟨rfl, trivial⟩ (Nat.le_of_ble_eq_true rfl) ?_
          refine j_icmp_eq (tgt := 1771) B dL_law_533 (by decide) hF (fun h533 hF => ?_) (fun h533 hF => ?_)
          · refine j_widen (k' := 517 + (j + 1)) (n' := 6567 + 40 * (j + 1)) (by omega) (by omega) ?_
            exact jb1771 hj9 a1 a2 w530 hF
          · refine j_iconst (v := 0) B dL_law_536 (by decide) ?_
            exact j_lZw B (by decide) rfl dL_law_537 hF (by omega) (by omega)
        rw [if_neg t33_7] at hF
        by_cases t33_8 : (i29 &&& 63) = 8
        · rw [if_pos t33_8] at hF
          refine j_tblIn (tgt := 538) B 8 dL_law_33 t33_8 (by decide) rfl (by decide) ?_
          refine j_aload_n B dL_law_538 rfl ?_
          refine j_aload_n B dL_law_539 rfl ?_
          refine j_iload_n B dL_law_540 rfl ?_
          refine j_iconst (v := 1) B dL_law_541 (by decide) ?_
          refine j_iadd B dL_law_542 ?_
          refine j_sld B hX hbl dL_law_543 hF (fun i543 hF => ?_)
          refine j_aload_n B dL_law_544 rfl ?_
          refine j_iload_n B dL_law_545 rfl ?_
          refine j_iconst (v := 2) B dL_law_546 (by decide) ?_
          refine j_iadd B dL_law_547 ?_
          refine j_sld B hX hbl dL_law_548 hF (fun i548 hF => ?_)
          obtain ⟨i549, w549, e549, hF⟩ := bc hF
          refine j_rV (st2 := [.int i549]) B [.int i543, .int i548] [] cv_L_49 dL_law_549 hl hR (ct_X0_wareOf G e549) (rmOk_mk rfl rfl (Nat.le_of_ble_eq_true rfl) (Nat.le_of_ble_eq_true rfl) (by show _ ≤ 601024; omega) (by show _ ≤ 7293034; omega)) rfl rfl rfl trivial (Nat.le_of_ble_eq_true rfl) ?_
          refine j_aload_n B dL_law_552 rfl ?_
          refine j_aload_n B dL_law_553 rfl ?_
          refine j_iload_n B dL_law_554 rfl ?_
          refine j_iconst (v := 1) B dL_law_555 (by decide) ?_
          refine j_iadd B dL_law_556 ?_
          refine j_sld B hX hbl dL_law_557 hF (fun i557 hF => ?_)
          refine j_aload_n B dL_law_558 rfl ?_
          refine j_iload_n B dL_law_559 rfl ?_
          refine j_iconst (v := 2) B dL_law_560 (by decide) ?_
          refine j_iadd B dL_law_561 ?_
          refine j_sld B hX hbl dL_law_562 hF (fun i562 hF => ?_)
          obtain ⟨i563, w563, e563, hF⟩ := bc hF
          refine j_rV (st2 := [.int i563, .int i549]) B [.int i557, .int i562] [.int i549] cv_L_52 dL_law_563 hl hR (ct_X13_wareOf G e563) (rmOk_mk rfl rfl (Nat.le_of_ble_eq_true rfl) (Nat.le_of_ble_eq_true rfl) (by show _ ≤ 601024; omega) (by show _ ≤ 7293034; omega)) rfl rfl rfl ⟨rfl, trivial⟩ (Nat.le_of_ble_eq_true rfl) ?_
          refine j_icmp_eq (tgt := 1771) B dL_law_566 (by decide) hF (fun h566 hF => ?_) (fun h566 hF => ?_)
          · refine j_widen (k' := 517 + (j + 1)) (n' := 6567 + 40 * (j + 1)) (by omega) (by omega) ?_
            exact jb1771 hj9 a1 a2 w563 hF
          · refine j_iconst (v := 0) B dL_law_569 (by decide) ?_
            exact j_lZw B (by decide) rfl dL_law_570 hF (by omega) (by omega)
        rw [if_neg t33_8] at hF
        by_cases t33_9 : (i29 &&& 63) = 9
        · rw [if_pos t33_9] at hF
          refine j_tblIn (tgt := 571) B 9 dL_law_33 t33_9 (by decide) rfl (by decide) ?_
          refine j_aload_n B dL_law_571 rfl ?_
          refine j_aload_n B dL_law_572 rfl ?_
          refine j_iload_n B dL_law_573 rfl ?_
          refine j_iconst (v := 1) B dL_law_574 (by decide) ?_
          refine j_iadd B dL_law_575 ?_
          refine j_sld B hX hbl dL_law_576 hF (fun i576 hF => ?_)
          refine j_aload_n B dL_law_577 rfl ?_
          refine j_iload_n B dL_law_578 rfl ?_
          refine j_iconst (v := 2) B dL_law_579 (by decide) ?_
          refine j_iadd B dL_law_580 ?_
          refine j_sld B hX hbl dL_law_581 hF (fun i581 hF => ?_)
          refine j_aload_n B dL_law_582 rfl ?_
          refine j_iload_n B dL_law_583 rfl ?_
          refine j_iconst (v := 3) B dL_law_584 (by decide) ?_
          refine j_iadd B dL_law_585 ?_
          refine j_sld B hX hbl dL_law_586 hF (fun i586 hF => ?_)
          obtain ⟨i587, w587, e587, hF⟩ := bc hF
          refine j_rV (st2 := [.int i587]) B [.int i576, .int i581, .int i586] [] cv_L_53 dL_law_587 hl hR (ct_X0_far G e587) (rmOk_mk rfl rfl (Nat.le_of_ble_eq_true rfl) (Nat.le_of_ble_eq_true rfl) (by show _ ≤ 601024; omega) (by show _ ≤ 7293034; omega)) rfl rfl rfl trivial (Nat.le_of_ble_eq_true rfl) ?_
          refine j_aload_n B dL_law_590 rfl ?_
          refine j_aload_n B dL_law_591 rfl ?_
          refine j_iload_n B dL_law_592 rfl ?_
          refine j_iconst (v := 1) B dL_law_593 (by decide) ?_
          refine j_iadd B dL_law_594 ?_
          refine j_sld B hX hbl dL_law_595 hF (fun i595 hF => ?_)
          refine j_aload_n B dL_law_596 rfl ?_
          refine j_iload_n B dL_law_597 rfl ?_
          refine j_iconst (v := 2) B dL_law_598 (by decide) ?_
          refine j_iadd B dL_law_599 ?_
          refine j_sld B hX hbl dL_law_600 hF (fun i600 hF => ?_)
          refine j_aload_n B dL_law_601 rfl ?_
          refine j_iload_n B dL_law_602 rfl ?_
          refine j_iconst (v := 3) B dL_law_603 (by decide) ?_
          refine j_iadd B dL_law_604 ?_
          refine j_sld B hX hbl dL_law_605 hF (fun i605 hF => ?_)
          obtain ⟨i606, w606, e606, hF⟩ := bc hF
          refine j_rV (st2 := [.int i606, .int i587]) B [.int i595, .int i600, .int i605] [.int i587] cv_L_56 dL_law_606 hl hR (ct_X13_far G e606) (rmOk_mk rfl rfl (Nat.le_of_ble_eq_true rfl) (Nat.le_of_ble_eq_true rfl) (by show _ ≤ 601024; omega) (by show _ ≤ 7293034; omega)) rfl rfl rfl ⟨rfl, trivial⟩ (Nat.le_of_ble_eq_true rfl) ?_
          refine j_icmp_eq (tgt := 1771) B dL_law_609 (by decide) hF (fun h609 hF => ?_) (fun h609 hF => ?_)
          · refine j_widen (k' := 517 + (j + 1)) (n' := 6567 + 40 * (j + 1)) (by omega) (by omega) ?_
            exact jb1771 hj9 a1 a2 w606 hF
          · refine j_iconst (v := 0) B dL_law_612 (by decide) ?_
            exact j_lZw B (by decide) rfl dL_law_613 hF (by omega) (by omega)
        rw [if_neg t33_9] at hF
        by_cases t33_10 : (i29 &&& 63) = 10
        · rw [if_pos t33_10] at hF
          refine j_tblIn (tgt := 614) B 10 dL_law_33 t33_10 (by decide) rfl (by decide) ?_
          refine j_aload_n B dL_law_614 rfl ?_
          refine j_aload_n B dL_law_615 rfl ?_
          refine j_iload_n B dL_law_616 rfl ?_
          refine j_iconst (v := 1) B dL_law_617 (by decide) ?_
          refine j_iadd B dL_law_618 ?_
          refine j_sld B hX hbl dL_law_619 hF (fun i619 hF => ?_)
          refine j_aload_n B dL_law_620 rfl ?_
          refine j_iload_n B dL_law_621 rfl ?_
          refine j_iconst (v := 2) B dL_law_622 (by decide) ?_
          refine j_iadd B dL_law_623 ?_
          refine j_sld B hX hbl dL_law_624 hF (fun i624 hF => ?_)
          obtain ⟨i625, w625, e625, hF⟩ := bc hF
          refine j_rV (st2 := [.int i625]) B [.int i619, .int i624] [] cv_L_57 dL_law_625 hl hR (ct_X0_first G e625) (rmOk_mk rfl rfl (Nat.le_of_ble_eq_true rfl) (Nat.le_of_ble_eq_true rfl) (by show _ ≤ 601024; omega) (by show _ ≤ 7293034; omega)) rfl rfl rfl trivial (Nat.le_of_ble_eq_true rfl) ?_
          refine j_aload_n B dL_law_628 rfl ?_
          refine j_aload_n B dL_law_629 rfl ?_
          refine j_iload_n B dL_law_630 rfl ?_
          refine j_iconst (v := 1) B dL_law_631 (by decide) ?_
          refine j_iadd B dL_law_632 ?_
          refine j_sld B hX hbl dL_law_633 hF (fun i633 hF => ?_)
          refine j_aload_n B dL_law_634 rfl ?_
          refine j_iload_n B dL_law_635 rfl ?_
          refine j_iconst (v := 2) B dL_law_636 (by decide) ?_
          refine j_iadd B dL_law_637 ?_
          refine j_sld B hX hbl dL_law_638 hF (fun i638 hF => ?_)
          obtain ⟨i639, w639, e639, hF⟩ := bc hF
          refine j_rV (st2 := [.int i639, .int i625]) B [.int i633, .int i638] [.int i625] cv_L_60 dL_law_639 hl hR (ct_X13_first G e639) (rmOk_mk rfl rfl (Nat.le_of_ble_eq_true rfl) (Nat.le_of_ble_eq_true rfl) (by show _ ≤ 601024; omega) (by show _ ≤ 7293034; omega)) rfl rfl rfl ⟨rfl, trivial⟩ (Nat.le_of_ble_eq_true rfl) ?_
          refine j_icmp_eq (tgt := 1771) B dL_law_642 (by decide) hF (fun h642 hF => ?_) (fun h642 hF => ?_)
          · refine j_widen (k' := 517 + (j + 1)) (n' := 6567 + 40 * (j + 1)) (by omega) (by omega) ?_
            exact jb1771 hj9 a1 a2 w639 hF
          · refine j_iconst (v := 0) B dL_law_645 (by decide) ?_
            exact j_lZw B (by decide) rfl dL_law_646 hF (by omega) (by omega)
        rw [if_neg t33_10] at hF
        by_cases t33_11 : (i29 &&& 63) = 11
        · rw [if_pos t33_11] at hF
          refine j_tblIn (tgt := 647) B 11 dL_law_33 t33_11 (by decide) rfl (by decide) ?_
          refine j_aload_n B dL_law_647 rfl ?_
          refine j_aload_n B dL_law_648 rfl ?_
          refine j_iload_n B dL_law_649 rfl ?_
          refine j_iconst (v := 1) B dL_law_650 (by decide) ?_
          refine j_iadd B dL_law_651 ?_
          refine j_sld B hX hbl dL_law_652 hF (fun i652 hF => ?_)
          refine j_aload_n B dL_law_653 rfl ?_
          refine j_iload_n B dL_law_654 rfl ?_
          refine j_iconst (v := 2) B dL_law_655 (by decide) ?_
          refine j_iadd B dL_law_656 ?_
          refine j_sld B hX hbl dL_law_657 hF (fun i657 hF => ?_)
          obtain ⟨i658, w658, e658, hF⟩ := bc hF
          refine j_rV (st2 := [.int i658]) B [.int i652, .int i657] [] cv_L_61 dL_law_658 hl hR (ct_X0_take G e658) (rmOk_mk rfl rfl (Nat.le_of_ble_eq_true rfl) (Nat.le_of_ble_eq_true rfl) (by show _ ≤ 601024; omega) (by show _ ≤ 7293034; omega)) rfl rfl rfl trivial (Nat.le_of_ble_eq_true rfl) ?_
          refine j_aload_n B dL_law_661 rfl ?_
          refine j_aload_n B dL_law_662 rfl ?_
          refine j_iload_n B dL_law_663 rfl ?_
          refine j_iconst (v := 1) B dL_law_664 (by decide) ?_
          refine j_iadd B dL_law_665 ?_
          refine j_sld B hX hbl dL_law_666 hF (fun i666 hF => ?_)
          refine j_aload_n B dL_law_667 rfl ?_
          refine j_iload_n B dL_law_668 rfl ?_
          refine j_iconst (v := 2) B dL_law_669 (by decide) ?_
          refine j_iadd B dL_law_670 ?_
          refine j_sld B hX hbl dL_law_671 hF (fun i671 hF => ?_)
          obtain ⟨i672, w672, e672, hF⟩ := bc hF
          refine j_rV (st2 := [.int i672, .int i658]) B [.int i666, .int i671] [.int i658] cv_L_64 dL_law_672 hl hR (ct_X13_take G e672) (rmOk_mk rfl rfl (Nat.le_of_ble_eq_true rfl) (Nat.le_of_ble_eq_true rfl) (by show _ ≤ 601024; omega) (by show _ ≤ 7293034; omega)) rfl rfl rfl ⟨rfl, trivial⟩ (Nat.le_of_ble_eq_true rfl) ?_
          refine j_icmp_eq (tgt := 1771) B dL_law_675 (by decide) hF (fun h675 hF => ?_) (fun h675 hF => ?_)
          · refine j_widen (k' := 517 + (j + 1)) (n' := 6567 + 40 * (j + 1)) (by omega) (by omega) ?_
            exact jb1771 hj9 a1 a2 w672 hF
          · refine j_iconst (v := 0) B dL_law_678 (by decide) ?_
            exact j_lZw B (by decide) rfl dL_law_679 hF (by omega) (by omega)
        rw [if_neg t33_11] at hF
        by_cases t33_12 : (i29 &&& 63) = 12
        · rw [if_pos t33_12] at hF
          refine j_tblIn (tgt := 680) B 12 dL_law_33 t33_12 (by decide) rfl (by decide) ?_
          refine j_aload_n B dL_law_680 rfl ?_
          refine j_aload_n B dL_law_681 rfl ?_
          refine j_iload_n B dL_law_682 rfl ?_
          refine j_iconst (v := 1) B dL_law_683 (by decide) ?_
          refine j_iadd B dL_law_684 ?_
          refine j_sld B hX hbl dL_law_685 hF (fun i685 hF => ?_)
          refine j_aload_n B dL_law_686 rfl ?_
          refine j_iload_n B dL_law_687 rfl ?_
          refine j_iconst (v := 2) B dL_law_688 (by decide) ?_
          refine j_iadd B dL_law_689 ?_
          refine j_sld B hX hbl dL_law_690 hF (fun i690 hF => ?_)
          obtain ⟨i691, w691, e691, hF⟩ := bc hF
          refine j_rV (st2 := [.int i691]) B [.int i685, .int i690] [] cv_L_65 dL_law_691 hl hR (ct_X0_drop G e691) (rmOk_mk rfl rfl (Nat.le_of_ble_eq_true rfl) (Nat.le_of_ble_eq_true rfl) (by show _ ≤ 601024; omega) (by show _ ≤ 7293034; omega)) rfl rfl rfl trivial (Nat.le_of_ble_eq_true rfl) ?_
          refine j_aload_n B dL_law_694 rfl ?_
          refine j_aload_n B dL_law_695 rfl ?_
          refine j_iload_n B dL_law_696 rfl ?_
          refine j_iconst (v := 1) B dL_law_697 (by decide) ?_
          refine j_iadd B dL_law_698 ?_
          refine j_sld B hX hbl dL_law_699 hF (fun i699 hF => ?_)
          refine j_aload_n B dL_law_700 rfl ?_
          refine j_iload_n B dL_law_701 rfl ?_
          refine j_iconst (v := 2) B dL_law_702 (by decide) ?_
          refine j_iadd B dL_law_703 ?_
          refine j_sld B hX hbl dL_law_704 hF (fun i704 hF => ?_)
          obtain ⟨i705, w705, e705, hF⟩ := bc hF
          refine j_rV (st2 := [.int i705, .int i691]) B [.int i699, .int i704] [.int i691] cv_L_68 dL_law_705 hl hR (ct_X13_drop G e705) (rmOk_mk rfl rfl (Nat.le_of_ble_eq_true rfl) (Nat.le_of_ble_eq_true rfl) (by show _ ≤ 601024; omega) (by show _ ≤ 7293034; omega)) rfl rfl rfl ⟨rfl, trivial⟩ (Nat.le_of_ble_eq_true rfl) ?_
          refine j_icmp_eq (tgt := 1771) B dL_law_708 (by decide) hF (fun h708 hF => ?_) (fun h708 hF => ?_)
          · refine j_widen (k' := 517 + (j + 1)) (n' := 6567 + 40 * (j + 1)) (by omega) (by omega) ?_
            exact jb1771 hj9 a1 a2 w705 hF
          · refine j_iconst (v := 0) B dL_law_711 (by decide) ?_
            exact j_lZw B (by decide) rfl dL_law_712 hF (by omega) (by omega)
        rw [if_neg t33_12] at hF
        by_cases t33_13 : (i29 &&& 63) = 13
        · rw [if_pos t33_13] at hF
          refine j_tblIn (tgt := 713) B 13 dL_law_33 t33_13 (by decide) rfl (by decide) ?_
          refine j_aload_n B dL_law_713 rfl ?_
          refine j_aload_n B dL_law_714 rfl ?_
          refine j_iload_n B dL_law_715 rfl ?_
          refine j_iconst (v := 1) B dL_law_716 (by decide) ?_
          refine j_iadd B dL_law_717 ?_
          refine j_sld B hX hbl dL_law_718 hF (fun i718 hF => ?_)
          refine j_aload_n B dL_law_719 rfl ?_
          refine j_iload_n B dL_law_720 rfl ?_
          refine j_iconst (v := 2) B dL_law_721 (by decide) ?_
          refine j_iadd B dL_law_722 ?_
          refine j_sld B hX hbl dL_law_723 hF (fun i723 hF => ?_)
          obtain ⟨i724, w724, e724, hF⟩ := bc hF
          refine j_rV (st2 := [.int i724]) B [.int i718, .int i723] [] cv_L_69 dL_law_724 hl hR (ct_X0_walk G e724) (rmOk_mk rfl rfl (Nat.le_of_ble_eq_true rfl) (Nat.le_of_ble_eq_true rfl) (by show _ ≤ 601024; omega) (by show _ ≤ 7293034; omega)) rfl rfl rfl trivial (Nat.le_of_ble_eq_true rfl) ?_
          refine j_aload_n B dL_law_727 rfl ?_
          refine j_aload_n B dL_law_728 rfl ?_
          refine j_iload_n B dL_law_729 rfl ?_
          refine j_iconst (v := 1) B dL_law_730 (by decide) ?_
          refine j_iadd B dL_law_731 ?_
          refine j_sld B hX hbl dL_law_732 hF (fun i732 hF => ?_)
          refine j_aload_n B dL_law_733 rfl ?_
          refine j_iload_n B dL_law_734 rfl ?_
          refine j_iconst (v := 2) B dL_law_735 (by decide) ?_
          refine j_iadd B dL_law_736 ?_
          refine j_sld B hX hbl dL_law_737 hF (fun i737 hF => ?_)
          obtain ⟨i738, w738, e738, hF⟩ := bc hF
          refine j_rV (st2 := [.int i738, .int i724]) B [.int i732, .int i737] [.int i724] cv_L_72 dL_law_738 hl hR (ct_X13_walk G e738) (rmOk_mk rfl rfl (Nat.le_of_ble_eq_true rfl) (Nat.le_of_ble_eq_true rfl) (by show _ ≤ 601024; omega) (by show _ ≤ 7293034; omega)) rfl rfl rfl ⟨rfl, trivial⟩ (Nat.le_of_ble_eq_true rfl) ?_
          refine j_icmp_eq (tgt := 1771) B dL_law_741 (by decide) hF (fun h741 hF => ?_) (fun h741 hF => ?_)
          · refine j_widen (k' := 517 + (j + 1)) (n' := 6567 + 40 * (j + 1)) (by omega) (by omega) ?_
            exact jb1771 hj9 a1 a2 w738 hF
          · refine j_iconst (v := 0) B dL_law_744 (by decide) ?_
            exact j_lZw B (by decide) rfl dL_law_745 hF (by omega) (by omega)
        rw [if_neg t33_13] at hF
        by_cases t33_14 : (i29 &&& 63) = 14
        · rw [if_pos t33_14] at hF
          refine j_tblIn (tgt := 746) B 14 dL_law_33 t33_14 (by decide) rfl (by decide) ?_
          refine j_aload_n B dL_law_746 rfl ?_
          refine j_aload_n B dL_law_747 rfl ?_
          refine j_iload_n B dL_law_748 rfl ?_
          refine j_iconst (v := 1) B dL_law_749 (by decide) ?_
          refine j_iadd B dL_law_750 ?_
          refine j_sld B hX hbl dL_law_751 hF (fun i751 hF => ?_)
          refine j_aload_n B dL_law_752 rfl ?_
          refine j_iload_n B dL_law_753 rfl ?_
          refine j_iconst (v := 2) B dL_law_754 (by decide) ?_
          refine j_iadd B dL_law_755 ?_
          refine j_sld B hX hbl dL_law_756 hF (fun i756 hF => ?_)
          obtain ⟨i757, w757, e757, hF⟩ := bc hF
          refine j_rV (st2 := [.int i757]) B [.int i751, .int i756] [] cv_L_73 dL_law_757 hl hR (ct_X0_buy G e757) (rmOk_mk rfl rfl (Nat.le_of_ble_eq_true rfl) (Nat.le_of_ble_eq_true rfl) (by show _ ≤ 601024; omega) (by show _ ≤ 7293034; omega)) rfl rfl rfl trivial (Nat.le_of_ble_eq_true rfl) ?_
          refine j_aload_n B dL_law_760 rfl ?_
          refine j_aload_n B dL_law_761 rfl ?_
          refine j_iload_n B dL_law_762 rfl ?_
          refine j_iconst (v := 1) B dL_law_763 (by decide) ?_
          refine j_iadd B dL_law_764 ?_
          refine j_sld B hX hbl dL_law_765 hF (fun i765 hF => ?_)
          refine j_aload_n B dL_law_766 rfl ?_
          refine j_iload_n B dL_law_767 rfl ?_
          refine j_iconst (v := 2) B dL_law_768 (by decide) ?_
          refine j_iadd B dL_law_769 ?_
          refine j_sld B hX hbl dL_law_770 hF (fun i770 hF => ?_)
          obtain ⟨i771, w771, e771, hF⟩ := bc hF
          refine j_rV (st2 := [.int i771, .int i757]) B [.int i765, .int i770] [.int i757] cv_L_76 dL_law_771 hl hR (ct_X13_buy G e771) (rmOk_mk rfl rfl (Nat.le_of_ble_eq_true rfl) (Nat.le_of_ble_eq_true rfl) (by show _ ≤ 601024; omega) (by show _ ≤ 7293034; omega)) rfl rfl rfl ⟨rfl, trivial⟩ (Nat.le_of_ble_eq_true rfl) ?_
          refine j_icmp_eq (tgt := 1771) B dL_law_774 (by decide) hF (fun h774 hF => ?_) (fun h774 hF => ?_)
          · refine j_widen (k' := 517 + (j + 1)) (n' := 6567 + 40 * (j + 1)) (by omega) (by omega) ?_
            exact jb1771 hj9 a1 a2 w771 hF
          · refine j_iconst (v := 0) B dL_law_777 (by decide) ?_
            exact j_lZw B (by decide) rfl dL_law_778 hF (by omega) (by omega)
        rw [if_neg t33_14] at hF
        by_cases t33_15 : (i29 &&& 63) = 15
        · rw [if_pos t33_15] at hF
          refine j_tblIn (tgt := 779) B 15 dL_law_33 t33_15 (by decide) rfl (by decide) ?_
          refine j_aload_n B dL_law_779 rfl ?_
          refine j_aload_n B dL_law_780 rfl ?_
          refine j_iload_n B dL_law_781 rfl ?_
          refine j_iconst (v := 1) B dL_law_782 (by decide) ?_
          refine j_iadd B dL_law_783 ?_
          refine j_sld B hX hbl dL_law_784 hF (fun i784 hF => ?_)
          obtain ⟨i785, w785, e785, hF⟩ := bc hF
          refine j_rV (st2 := [.int i785]) B [.int i784] [] cv_L_77 dL_law_785 hl hR (ct_X0_now G e785) (rmOk_mk rfl rfl (Nat.le_of_ble_eq_true rfl) (Nat.le_of_ble_eq_true rfl) (by show _ ≤ 601024; omega) (by show _ ≤ 7293034; omega)) rfl rfl rfl trivial (Nat.le_of_ble_eq_true rfl) ?_
          refine j_aload_n B dL_law_788 rfl ?_
          refine j_aload_n B dL_law_789 rfl ?_
          refine j_iload_n B dL_law_790 rfl ?_
          refine j_iconst (v := 1) B dL_law_791 (by decide) ?_
          refine j_iadd B dL_law_792 ?_
          refine j_sld B hX hbl dL_law_793 hF (fun i793 hF => ?_)
          obtain ⟨i794, w794, e794, hF⟩ := bc hF
          refine j_rV (st2 := [.int i794, .int i785]) B [.int i793] [.int i785] cv_L_80 dL_law_794 hl hR (ct_X13_now G e794) (rmOk_mk rfl rfl (Nat.le_of_ble_eq_true rfl) (Nat.le_of_ble_eq_true rfl) (by show _ ≤ 601024; omega) (by show _ ≤ 7293034; omega)) rfl rfl rfl ⟨rfl, trivial⟩ (Nat.le_of_ble_eq_true rfl) ?_
          refine j_icmp_eq (tgt := 1771) B dL_law_797 (by decide) hF (fun h797 hF => ?_) (fun h797 hF => ?_)
          · refine j_widen (k' := 517 + (j + 1)) (n' := 6567 + 40 * (j + 1)) (by omega) (by omega) ?_
            exact jb1771 hj9 a1 a2 w794 hF
          · refine j_iconst (v := 0) B dL_law_800 (by decide) ?_
            exact j_lZw B (by decide) rfl dL_law_801 hF (by omega) (by omega)
        rw [if_neg t33_15] at hF
        by_cases t33_16 : (i29 &&& 63) = 16
        · rw [if_pos t33_16] at hF
          refine j_tblIn (tgt := 802) B 16 dL_law_33 t33_16 (by decide) rfl (by decide) ?_
          refine j_aload_n B dL_law_802 rfl ?_
          refine j_aload_n B dL_law_803 rfl ?_
          refine j_iload_n B dL_law_804 rfl ?_
          refine j_iconst (v := 1) B dL_law_805 (by decide) ?_
          refine j_iadd B dL_law_806 ?_
          refine j_sld B hX hbl dL_law_807 hF (fun i807 hF => ?_)
          refine j_aload_n B dL_law_808 rfl ?_
          refine j_iload_n B dL_law_809 rfl ?_
          refine j_iconst (v := 2) B dL_law_810 (by decide) ?_
          refine j_iadd B dL_law_811 ?_
          refine j_sld B hX hbl dL_law_812 hF (fun i812 hF => ?_)
          obtain ⟨i813, w813, e813, hF⟩ := bc hF
          refine j_rV (st2 := [.int i813]) B [.int i807, .int i812] [] cv_L_81 dL_law_813 hl hR (ct_X0_round G e813) (rmOk_mk rfl rfl (Nat.le_of_ble_eq_true rfl) (Nat.le_of_ble_eq_true rfl) (by show _ ≤ 601024; omega) (by show _ ≤ 7293034; omega)) rfl rfl rfl trivial (Nat.le_of_ble_eq_true rfl) ?_
          refine j_aload_n B dL_law_816 rfl ?_
          refine j_aload_n B dL_law_817 rfl ?_
          refine j_iload_n B dL_law_818 rfl ?_
          refine j_iconst (v := 1) B dL_law_819 (by decide) ?_
          refine j_iadd B dL_law_820 ?_
          refine j_sld B hX hbl dL_law_821 hF (fun i821 hF => ?_)
          refine j_aload_n B dL_law_822 rfl ?_
          refine j_iload_n B dL_law_823 rfl ?_
          refine j_iconst (v := 2) B dL_law_824 (by decide) ?_
          refine j_iadd B dL_law_825 ?_
          refine j_sld B hX hbl dL_law_826 hF (fun i826 hF => ?_)
          obtain ⟨i827, w827, e827, hF⟩ := bc hF
          refine j_rV (st2 := [.int i827, .int i813]) B [.int i821, .int i826] [.int i813] cv_L_84 dL_law_827 hl hR (ct_X13_round G e827) (rmOk_mk rfl rfl (Nat.le_of_ble_eq_true rfl) (Nat.le_of_ble_eq_true rfl) (by show _ ≤ 601024; omega) (by show _ ≤ 7293034; omega)) rfl rfl rfl ⟨rfl, trivial⟩ (Nat.le_of_ble_eq_true rfl) ?_
          refine j_icmp_eq (tgt := 1771) B dL_law_830 (by decide) hF (fun h830 hF => ?_) (fun h830 hF => ?_)
          · refine j_widen (k' := 517 + (j + 1)) (n' := 6567 + 40 * (j + 1)) (by omega) (by omega) ?_
            exact jb1771 hj9 a1 a2 w827 hF
          · refine j_iconst (v := 0) B dL_law_833 (by decide) ?_
            exact j_lZw B (by decide) rfl dL_law_834 hF (by omega) (by omega)
        rw [if_neg t33_16] at hF
        by_cases t33_17 : (i29 &&& 63) = 17
        · rw [if_pos t33_17] at hF
          refine j_tblIn (tgt := 835) B 17 dL_law_33 t33_17 (by decide) rfl (by decide) ?_
          refine j_aload_n B dL_law_835 rfl ?_
          refine j_aload_n B dL_law_836 rfl ?_
          refine j_iload_n B dL_law_837 rfl ?_
          refine j_iconst (v := 1) B dL_law_838 (by decide) ?_
          refine j_iadd B dL_law_839 ?_
          refine j_sld B hX hbl dL_law_840 hF (fun i840 hF => ?_)
          refine j_aload_n B dL_law_841 rfl ?_
          refine j_iload_n B dL_law_842 rfl ?_
          refine j_iconst (v := 2) B dL_law_843 (by decide) ?_
          refine j_iadd B dL_law_844 ?_
          refine j_sld B hX hbl dL_law_845 hF (fun i845 hF => ?_)
          obtain ⟨i846, w846, e846, hF⟩ := bc hF
          refine j_rV (st2 := [.int i846]) B [.int i840, .int i845] [] cv_L_85 dL_law_846 hl hR (ct_X0_gets G e846) (rmOk_mk rfl rfl (Nat.le_of_ble_eq_true rfl) (Nat.le_of_ble_eq_true rfl) (by show _ ≤ 601024; omega) (by show _ ≤ 7293034; omega)) rfl rfl rfl trivial (Nat.le_of_ble_eq_true rfl) ?_
          refine j_aload_n B dL_law_849 rfl ?_
          refine j_aload_n B dL_law_850 rfl ?_
          refine j_iload_n B dL_law_851 rfl ?_
          refine j_iconst (v := 1) B dL_law_852 (by decide) ?_
          refine j_iadd B dL_law_853 ?_
          refine j_sld B hX hbl dL_law_854 hF (fun i854 hF => ?_)
          refine j_aload_n B dL_law_855 rfl ?_
          refine j_iload_n B dL_law_856 rfl ?_
          refine j_iconst (v := 2) B dL_law_857 (by decide) ?_
          refine j_iadd B dL_law_858 ?_
          refine j_sld B hX hbl dL_law_859 hF (fun i859 hF => ?_)
          obtain ⟨i860, w860, e860, hF⟩ := bc hF
          refine j_rV (st2 := [.int i860, .int i846]) B [.int i854, .int i859] [.int i846] cv_L_88 dL_law_860 hl hR (ct_X13_gets G e860) (rmOk_mk rfl rfl (Nat.le_of_ble_eq_true rfl) (Nat.le_of_ble_eq_true rfl) (by show _ ≤ 601024; omega) (by show _ ≤ 7293034; omega)) rfl rfl rfl ⟨rfl, trivial⟩ (Nat.le_of_ble_eq_true rfl) ?_
          refine j_icmp_eq (tgt := 1771) B dL_law_863 (by decide) hF (fun h863 hF => ?_) (fun h863 hF => ?_)
          · refine j_widen (k' := 517 + (j + 1)) (n' := 6567 + 40 * (j + 1)) (by omega) (by omega) ?_
            exact jb1771 hj9 a1 a2 w860 hF
          · refine j_iconst (v := 0) B dL_law_866 (by decide) ?_
            exact j_lZw B (by decide) rfl dL_law_867 hF (by omega) (by omega)
        rw [if_neg t33_17] at hF
        by_cases t33_18 : (i29 &&& 63) = 18
        · rw [if_pos t33_18] at hF
          refine j_tblIn (tgt := 868) B 18 dL_law_33 t33_18 (by decide) rfl (by decide) ?_
          refine j_aload_n B dL_law_868 rfl ?_
          refine j_aload_n B dL_law_869 rfl ?_
          refine j_iload_n B dL_law_870 rfl ?_
          refine j_iconst (v := 1) B dL_law_871 (by decide) ?_
          refine j_iadd B dL_law_872 ?_
          refine j_sld B hX hbl dL_law_873 hF (fun i873 hF => ?_)
          refine j_aload_n B dL_law_874 rfl ?_
          refine j_iload_n B dL_law_875 rfl ?_
          refine j_iconst (v := 2) B dL_law_876 (by decide) ?_
          refine j_iadd B dL_law_877 ?_
          refine j_sld B hX hbl dL_law_878 hF (fun i878 hF => ?_)
          obtain ⟨i879, w879, e879, hF⟩ := bc hF
          refine j_rV (st2 := [.int i879]) B [.int i873, .int i878] [] cv_L_89 dL_law_879 hl hR (ct_X0_cheapest G e879) (rmOk_mk rfl rfl (Nat.le_of_ble_eq_true rfl) (Nat.le_of_ble_eq_true rfl) (by show _ ≤ 601024; omega) (by show _ ≤ 7293034; omega)) rfl rfl rfl trivial (Nat.le_of_ble_eq_true rfl) ?_
          refine j_aload_n B dL_law_882 rfl ?_
          refine j_aload_n B dL_law_883 rfl ?_
          refine j_iload_n B dL_law_884 rfl ?_
          refine j_iconst (v := 1) B dL_law_885 (by decide) ?_
          refine j_iadd B dL_law_886 ?_
          refine j_sld B hX hbl dL_law_887 hF (fun i887 hF => ?_)
          refine j_aload_n B dL_law_888 rfl ?_
          refine j_iload_n B dL_law_889 rfl ?_
          refine j_iconst (v := 2) B dL_law_890 (by decide) ?_
          refine j_iadd B dL_law_891 ?_
          refine j_sld B hX hbl dL_law_892 hF (fun i892 hF => ?_)
          obtain ⟨i893, w893, e893, hF⟩ := bc hF
          refine j_rV (st2 := [.int i893, .int i879]) B [.int i887, .int i892] [.int i879] cv_L_92 dL_law_893 hl hR (ct_X13_cheapest G e893) (rmOk_mk rfl rfl (Nat.le_of_ble_eq_true rfl) (Nat.le_of_ble_eq_true rfl) (by show _ ≤ 601024; omega) (by show _ ≤ 7293034; omega)) rfl rfl rfl ⟨rfl, trivial⟩ (Nat.le_of_ble_eq_true rfl) ?_
          refine j_icmp_eq (tgt := 1771) B dL_law_896 (by decide) hF (fun h896 hF => ?_) (fun h896 hF => ?_)
          · refine j_widen (k' := 517 + (j + 1)) (n' := 6567 + 40 * (j + 1)) (by omega) (by omega) ?_
            exact jb1771 hj9 a1 a2 w893 hF
          · refine j_iconst (v := 0) B dL_law_899 (by decide) ?_
            exact j_lZw B (by decide) rfl dL_law_900 hF (by omega) (by omega)
        rw [if_neg t33_18] at hF
        by_cases t33_19 : (i29 &&& 63) = 19
        · rw [if_pos t33_19] at hF
          refine j_tblIn (tgt := 901) B 19 dL_law_33 t33_19 (by decide) rfl (by decide) ?_
          refine j_aload_n B dL_law_901 rfl ?_
          refine j_aload_n B dL_law_902 rfl ?_
          refine j_iload_n B dL_law_903 rfl ?_
          refine j_iconst (v := 1) B dL_law_904 (by decide) ?_
          refine j_iadd B dL_law_905 ?_
          refine j_sld B hX hbl dL_law_906 hF (fun i906 hF => ?_)
          refine j_aload_n B dL_law_907 rfl ?_
          refine j_iload_n B dL_law_908 rfl ?_
          refine j_iconst (v := 2) B dL_law_909 (by decide) ?_
          refine j_iadd B dL_law_910 ?_
          refine j_sld B hX hbl dL_law_911 hF (fun i911 hF => ?_)
          obtain ⟨i912, w912, e912, hF⟩ := bc hF
          refine j_rV (st2 := [.int i912]) B [.int i906, .int i911] [] cv_L_93 dL_law_912 hl hR (ct_X0_which G e912) (rmOk_mk rfl rfl (Nat.le_of_ble_eq_true rfl) (Nat.le_of_ble_eq_true rfl) (by show _ ≤ 601024; omega) (by show _ ≤ 7293034; omega)) rfl rfl rfl trivial (Nat.le_of_ble_eq_true rfl) ?_
          refine j_aload_n B dL_law_915 rfl ?_
          refine j_aload_n B dL_law_916 rfl ?_
          refine j_iload_n B dL_law_917 rfl ?_
          refine j_iconst (v := 1) B dL_law_918 (by decide) ?_
          refine j_iadd B dL_law_919 ?_
          refine j_sld B hX hbl dL_law_920 hF (fun i920 hF => ?_)
          refine j_aload_n B dL_law_921 rfl ?_
          refine j_iload_n B dL_law_922 rfl ?_
          refine j_iconst (v := 2) B dL_law_923 (by decide) ?_
          refine j_iadd B dL_law_924 ?_
          refine j_sld B hX hbl dL_law_925 hF (fun i925 hF => ?_)
          obtain ⟨i926, w926, e926, hF⟩ := bc hF
          refine j_rV (st2 := [.int i926, .int i912]) B [.int i920, .int i925] [.int i912] cv_L_96 dL_law_926 hl hR (ct_X13_which G e926) (rmOk_mk rfl rfl (Nat.le_of_ble_eq_true rfl) (Nat.le_of_ble_eq_true rfl) (by show _ ≤ 601024; omega) (by show _ ≤ 7293034; omega)) rfl rfl rfl ⟨rfl, trivial⟩ (Nat.le_of_ble_eq_true rfl) ?_
          refine j_icmp_eq (tgt := 1771) B dL_law_929 (by decide) hF (fun h929 hF => ?_) (fun h929 hF => ?_)
          · refine j_widen (k' := 517 + (j + 1)) (n' := 6567 + 40 * (j + 1)) (by omega) (by omega) ?_
            exact jb1771 hj9 a1 a2 w926 hF
          · refine j_iconst (v := 0) B dL_law_932 (by decide) ?_
            exact j_lZw B (by decide) rfl dL_law_933 hF (by omega) (by omega)
        rw [if_neg t33_19] at hF
        by_cases t33_20 : (i29 &&& 63) = 20
        · rw [if_pos t33_20] at hF
          refine j_tblIn (tgt := 934) B 20 dL_law_33 t33_20 (by decide) rfl (by decide) ?_
          refine j_aload_n B dL_law_934 rfl ?_
          refine j_aload_n B dL_law_935 rfl ?_
          refine j_iload_n B dL_law_936 rfl ?_
          refine j_iconst (v := 1) B dL_law_937 (by decide) ?_
          refine j_iadd B dL_law_938 ?_
          refine j_sld B hX hbl dL_law_939 hF (fun i939 hF => ?_)
          obtain ⟨i940, w940, e940, hF⟩ := bc hF
          refine j_rV (st2 := [.int i940]) B [.int i939] [] cv_L_97 dL_law_940 hl hR (ct_X0_who G e940) (rmOk_mk rfl rfl (Nat.le_of_ble_eq_true rfl) (Nat.le_of_ble_eq_true rfl) (by show _ ≤ 601024; omega) (by show _ ≤ 7293034; omega)) rfl rfl rfl trivial (Nat.le_of_ble_eq_true rfl) ?_
          refine j_aload_n B dL_law_943 rfl ?_
          refine j_aload_n B dL_law_944 rfl ?_
          refine j_iload_n B dL_law_945 rfl ?_
          refine j_iconst (v := 1) B dL_law_946 (by decide) ?_
          refine j_iadd B dL_law_947 ?_
          refine j_sld B hX hbl dL_law_948 hF (fun i948 hF => ?_)
          obtain ⟨i949, w949, e949, hF⟩ := bc hF
          refine j_rV (st2 := [.int i949, .int i940]) B [.int i948] [.int i940] cv_L_100 dL_law_949 hl hR (ct_X13_who G e949) (rmOk_mk rfl rfl (Nat.le_of_ble_eq_true rfl) (Nat.le_of_ble_eq_true rfl) (by show _ ≤ 601024; omega) (by show _ ≤ 7293034; omega)) rfl rfl rfl ⟨rfl, trivial⟩ (Nat.le_of_ble_eq_true rfl) ?_
          refine j_icmp_eq (tgt := 1771) B dL_law_952 (by decide) hF (fun h952 hF => ?_) (fun h952 hF => ?_)
          · refine j_widen (k' := 517 + (j + 1)) (n' := 6567 + 40 * (j + 1)) (by omega) (by omega) ?_
            exact jb1771 hj9 a1 a2 w949 hF
          · refine j_iconst (v := 0) B dL_law_955 (by decide) ?_
            exact j_lZw B (by decide) rfl dL_law_956 hF (by omega) (by omega)
        rw [if_neg t33_20] at hF
        by_cases t33_21 : (i29 &&& 63) = 21
        · rw [if_pos t33_21] at hF
          refine j_tblIn (tgt := 957) B 21 dL_law_33 t33_21 (by decide) rfl (by decide) ?_
          refine j_aload_n B dL_law_957 rfl ?_
          refine j_aload_n B dL_law_958 rfl ?_
          refine j_iload_n B dL_law_959 rfl ?_
          refine j_iconst (v := 1) B dL_law_960 (by decide) ?_
          refine j_iadd B dL_law_961 ?_
          refine j_sld B hX hbl dL_law_962 hF (fun i962 hF => ?_)
          refine j_aload_n B dL_law_963 rfl ?_
          refine j_iload_n B dL_law_964 rfl ?_
          refine j_iconst (v := 2) B dL_law_965 (by decide) ?_
          refine j_iadd B dL_law_966 ?_
          refine j_sld B hX hbl dL_law_967 hF (fun i967 hF => ?_)
          obtain ⟨i968, w968, e968, hF⟩ := bc hF
          refine j_rV (st2 := [.int i968]) B [.int i962, .int i967] [] cv_L_101 dL_law_968 hl hR (ct_X0_joined G e968) (rmOk_mk rfl rfl (Nat.le_of_ble_eq_true rfl) (Nat.le_of_ble_eq_true rfl) (by show _ ≤ 601024; omega) (by show _ ≤ 7293034; omega)) rfl rfl rfl trivial (Nat.le_of_ble_eq_true rfl) ?_
          refine j_aload_n B dL_law_971 rfl ?_
          refine j_aload_n B dL_law_972 rfl ?_
          refine j_iload_n B dL_law_973 rfl ?_
          refine j_iconst (v := 1) B dL_law_974 (by decide) ?_
          refine j_iadd B dL_law_975 ?_
          refine j_sld B hX hbl dL_law_976 hF (fun i976 hF => ?_)
          refine j_aload_n B dL_law_977 rfl ?_
          refine j_iload_n B dL_law_978 rfl ?_
          refine j_iconst (v := 2) B dL_law_979 (by decide) ?_
          refine j_iadd B dL_law_980 ?_
          refine j_sld B hX hbl dL_law_981 hF (fun i981 hF => ?_)
          obtain ⟨i982, w982, e982, hF⟩ := bc hF
          refine j_rV (st2 := [.int i982, .int i968]) B [.int i976, .int i981] [.int i968] cv_L_104 dL_law_982 hl hR (ct_X13_joined G e982) (rmOk_mk rfl rfl (Nat.le_of_ble_eq_true rfl) (Nat.le_of_ble_eq_true rfl) (by show _ ≤ 601024; omega) (by show _ ≤ 7293034; omega)) rfl rfl rfl ⟨rfl, trivial⟩ (Nat.le_of_ble_eq_true rfl) ?_
          refine j_icmp_eq (tgt := 1771) B dL_law_985 (by decide) hF (fun h985 hF => ?_) (fun h985 hF => ?_)
          · refine j_widen (k' := 517 + (j + 1)) (n' := 6567 + 40 * (j + 1)) (by omega) (by omega) ?_
            exact jb1771 hj9 a1 a2 w982 hF
          · refine j_iconst (v := 0) B dL_law_988 (by decide) ?_
            exact j_lZw B (by decide) rfl dL_law_989 hF (by omega) (by omega)
        rw [if_neg t33_21] at hF
        by_cases t33_22 : (i29 &&& 63) = 22
        · rw [if_pos t33_22] at hF
          refine j_tblIn (tgt := 990) B 22 dL_law_33 t33_22 (by decide) rfl (by decide) ?_
          refine j_aload_n B dL_law_990 rfl ?_
          refine j_aload_n B dL_law_991 rfl ?_
          refine j_iload_n B dL_law_992 rfl ?_
          refine j_iconst (v := 1) B dL_law_993 (by decide) ?_
          refine j_iadd B dL_law_994 ?_
          refine j_sld B hX hbl dL_law_995 hF (fun i995 hF => ?_)
          refine j_aload_n B dL_law_996 rfl ?_
          refine j_iload_n B dL_law_997 rfl ?_
          refine j_iconst (v := 2) B dL_law_998 (by decide) ?_
          refine j_iadd B dL_law_999 ?_
          refine j_sld B hX hbl dL_law_1000 hF (fun i1000 hF => ?_)
          refine j_aload_n B dL_law_1001 rfl ?_
          refine j_iload_n B dL_law_1002 rfl ?_
          refine j_iconst (v := 3) B dL_law_1003 (by decide) ?_
          refine j_iadd B dL_law_1004 ?_
          refine j_sld B hX hbl dL_law_1005 hF (fun i1005 hF => ?_)
          obtain ⟨i1006, w1006, e1006, hF⟩ := bc hF
          refine j_rV (st2 := [.int i1006]) B [.int i995, .int i1000, .int i1005] [] cv_L_105 dL_law_1006 hl hR (ct_X0_shared G e1006) (rmOk_mk rfl rfl (Nat.le_of_ble_eq_true rfl) (Nat.le_of_ble_eq_true rfl) (by show _ ≤ 601024; omega) (by show _ ≤ 7293034; omega)) rfl rfl rfl trivial (Nat.le_of_ble_eq_true rfl) ?_
          refine j_aload_n B dL_law_1009 rfl ?_
          refine j_aload_n B dL_law_1010 rfl ?_
          refine j_iload_n B dL_law_1011 rfl ?_
          refine j_iconst (v := 1) B dL_law_1012 (by decide) ?_
          refine j_iadd B dL_law_1013 ?_
          refine j_sld B hX hbl dL_law_1014 hF (fun i1014 hF => ?_)
          refine j_aload_n B dL_law_1015 rfl ?_
          refine j_iload_n B dL_law_1016 rfl ?_
          refine j_iconst (v := 2) B dL_law_1017 (by decide) ?_
          refine j_iadd B dL_law_1018 ?_
          refine j_sld B hX hbl dL_law_1019 hF (fun i1019 hF => ?_)
          refine j_aload_n B dL_law_1020 rfl ?_
          refine j_iload_n B dL_law_1021 rfl ?_
          refine j_iconst (v := 3) B dL_law_1022 (by decide) ?_
          refine j_iadd B dL_law_1023 ?_
          refine j_sld B hX hbl dL_law_1024 hF (fun i1024 hF => ?_)
          obtain ⟨i1025, w1025, e1025, hF⟩ := bc hF
          refine j_rV (st2 := [.int i1025, .int i1006]) B [.int i1014, .int i1019, .int i1024] [.int i1006] cv_L_108 dL_law_1025 hl hR (ct_X13_shared G e1025) (rmOk_mk rfl rfl (Nat.le_of_ble_eq_true rfl) (Nat.le_of_ble_eq_true rfl) (by show _ ≤ 601024; omega) (by show _ ≤ 7293034; omega)) rfl rfl rfl ⟨rfl, trivial⟩ (Nat.le_of_ble_eq_true rfl) ?_
          refine j_icmp_eq (tgt := 1771) B dL_law_1028 (by decide) hF (fun h1028 hF => ?_) (fun h1028 hF => ?_)
          · refine j_widen (k' := 517 + (j + 1)) (n' := 6567 + 40 * (j + 1)) (by omega) (by omega) ?_
            exact jb1771 hj9 a1 a2 w1025 hF
          · refine j_iconst (v := 0) B dL_law_1031 (by decide) ?_
            exact j_lZw B (by decide) rfl dL_law_1032 hF (by omega) (by omega)
        rw [if_neg t33_22] at hF
        by_cases t33_23 : (i29 &&& 63) = 23
        · rw [if_pos t33_23] at hF
          refine j_tblIn (tgt := 1033) B 23 dL_law_33 t33_23 (by decide) rfl (by decide) ?_
          refine j_aload_n B dL_law_1033 rfl ?_
          refine j_aload_n B dL_law_1034 rfl ?_
          refine j_iload_n B dL_law_1035 rfl ?_
          refine j_iconst (v := 1) B dL_law_1036 (by decide) ?_
          refine j_iadd B dL_law_1037 ?_
          refine j_sld B hX hbl dL_law_1038 hF (fun i1038 hF => ?_)
          refine j_aload_n B dL_law_1039 rfl ?_
          refine j_iload_n B dL_law_1040 rfl ?_
          refine j_iconst (v := 2) B dL_law_1041 (by decide) ?_
          refine j_iadd B dL_law_1042 ?_
          refine j_sld B hX hbl dL_law_1043 hF (fun i1043 hF => ?_)
          refine j_aload_n B dL_law_1044 rfl ?_
          refine j_iload_n B dL_law_1045 rfl ?_
          refine j_iconst (v := 3) B dL_law_1046 (by decide) ?_
          refine j_iadd B dL_law_1047 ?_
          refine j_sld B hX hbl dL_law_1048 hF (fun i1048 hF => ?_)
          obtain ⟨i1049, w1049, e1049, hF⟩ := bc hF
          refine j_rV (st2 := [.int i1049]) B [.int i1038, .int i1043, .int i1048] [] cv_L_109 dL_law_1049 hl hR (ct_X0_part G e1049) (rmOk_mk rfl rfl (Nat.le_of_ble_eq_true rfl) (Nat.le_of_ble_eq_true rfl) (by show _ ≤ 601024; omega) (by show _ ≤ 7293034; omega)) rfl rfl rfl trivial (Nat.le_of_ble_eq_true rfl) ?_
          refine j_aload_n B dL_law_1052 rfl ?_
          refine j_aload_n B dL_law_1053 rfl ?_
          refine j_iload_n B dL_law_1054 rfl ?_
          refine j_iconst (v := 1) B dL_law_1055 (by decide) ?_
          refine j_iadd B dL_law_1056 ?_
          refine j_sld B hX hbl dL_law_1057 hF (fun i1057 hF => ?_)
          refine j_aload_n B dL_law_1058 rfl ?_
          refine j_iload_n B dL_law_1059 rfl ?_
          refine j_iconst (v := 2) B dL_law_1060 (by decide) ?_
          refine j_iadd B dL_law_1061 ?_
          refine j_sld B hX hbl dL_law_1062 hF (fun i1062 hF => ?_)
          refine j_aload_n B dL_law_1063 rfl ?_
          refine j_iload_n B dL_law_1064 rfl ?_
          refine j_iconst (v := 3) B dL_law_1065 (by decide) ?_
          refine j_iadd B dL_law_1066 ?_
          refine j_sld B hX hbl dL_law_1067 hF (fun i1067 hF => ?_)
          obtain ⟨i1068, w1068, e1068, hF⟩ := bc hF
          refine j_rV (st2 := [.int i1068, .int i1049]) B [.int i1057, .int i1062, .int i1067] [.int i1049] cv_L_112 dL_law_1068 hl hR (ct_X13_part G e1068) (rmOk_mk rfl rfl (Nat.le_of_ble_eq_true rfl) (Nat.le_of_ble_eq_true rfl) (by show _ ≤ 601024; omega) (by show _ ≤ 7293034; omega)) rfl rfl rfl ⟨rfl, trivial⟩ (Nat.le_of_ble_eq_true rfl) ?_
          refine j_icmp_eq (tgt := 1771) B dL_law_1071 (by decide) hF (fun h1071 hF => ?_) (fun h1071 hF => ?_)
          · refine j_widen (k' := 517 + (j + 1)) (n' := 6567 + 40 * (j + 1)) (by omega) (by omega) ?_
            exact jb1771 hj9 a1 a2 w1068 hF
          · refine j_iconst (v := 0) B dL_law_1074 (by decide) ?_
            exact j_lZw B (by decide) rfl dL_law_1075 hF (by omega) (by omega)
        rw [if_neg t33_23] at hF
        by_cases t33_24 : (i29 &&& 63) = 24
        · rw [if_pos t33_24] at hF
          refine j_tblIn (tgt := 1076) B 24 dL_law_33 t33_24 (by decide) rfl (by decide) ?_
          refine j_aload_n B dL_law_1076 rfl ?_
          refine j_aload_n B dL_law_1077 rfl ?_
          refine j_iload_n B dL_law_1078 rfl ?_
          refine j_iconst (v := 1) B dL_law_1079 (by decide) ?_
          refine j_iadd B dL_law_1080 ?_
          refine j_sld B hX hbl dL_law_1081 hF (fun i1081 hF => ?_)
          refine j_aload_n B dL_law_1082 rfl ?_
          refine j_iload_n B dL_law_1083 rfl ?_
          refine j_iconst (v := 2) B dL_law_1084 (by decide) ?_
          refine j_iadd B dL_law_1085 ?_
          refine j_sld B hX hbl dL_law_1086 hF (fun i1086 hF => ?_)
          obtain ⟨i1087, w1087, e1087, hF⟩ := bc hF
          refine j_rV (st2 := [.int i1087]) B [.int i1081, .int i1086] [] cv_L_113 dL_law_1087 hl hR (ct_X0_strength G e1087) (rmOk_mk rfl rfl (Nat.le_of_ble_eq_true rfl) (Nat.le_of_ble_eq_true rfl) (by show _ ≤ 601024; omega) (by show _ ≤ 7293034; omega)) rfl rfl rfl trivial (Nat.le_of_ble_eq_true rfl) ?_
          refine j_aload_n B dL_law_1090 rfl ?_
          refine j_aload_n B dL_law_1091 rfl ?_
          refine j_iload_n B dL_law_1092 rfl ?_
          refine j_iconst (v := 1) B dL_law_1093 (by decide) ?_
          refine j_iadd B dL_law_1094 ?_
          refine j_sld B hX hbl dL_law_1095 hF (fun i1095 hF => ?_)
          refine j_aload_n B dL_law_1096 rfl ?_
          refine j_iload_n B dL_law_1097 rfl ?_
          refine j_iconst (v := 2) B dL_law_1098 (by decide) ?_
          refine j_iadd B dL_law_1099 ?_
          refine j_sld B hX hbl dL_law_1100 hF (fun i1100 hF => ?_)
          obtain ⟨i1101, w1101, e1101, hF⟩ := bc hF
          refine j_rV (st2 := [.int i1101, .int i1087]) B [.int i1095, .int i1100] [.int i1087] cv_L_116 dL_law_1101 hl hR (ct_X13_strength G e1101) (rmOk_mk rfl rfl (Nat.le_of_ble_eq_true rfl) (Nat.le_of_ble_eq_true rfl) (by show _ ≤ 601024; omega) (by show _ ≤ 7293034; omega)) rfl rfl rfl ⟨rfl, trivial⟩ (Nat.le_of_ble_eq_true rfl) ?_
          refine j_icmp_eq (tgt := 1771) B dL_law_1104 (by decide) hF (fun h1104 hF => ?_) (fun h1104 hF => ?_)
          · refine j_widen (k' := 517 + (j + 1)) (n' := 6567 + 40 * (j + 1)) (by omega) (by omega) ?_
            exact jb1771 hj9 a1 a2 w1101 hF
          · refine j_iconst (v := 0) B dL_law_1107 (by decide) ?_
            exact j_lZw B (by decide) rfl dL_law_1108 hF (by omega) (by omega)
        rw [if_neg t33_24] at hF
        by_cases t33_25 : (i29 &&& 63) = 25
        · rw [if_pos t33_25] at hF
          refine j_tblIn (tgt := 1109) B 25 dL_law_33 t33_25 (by decide) rfl (by decide) ?_
          refine j_aload_n B dL_law_1109 rfl ?_
          refine j_aload_n B dL_law_1110 rfl ?_
          refine j_iload_n B dL_law_1111 rfl ?_
          refine j_iconst (v := 1) B dL_law_1112 (by decide) ?_
          refine j_iadd B dL_law_1113 ?_
          refine j_sld B hX hbl dL_law_1114 hF (fun i1114 hF => ?_)
          refine j_aload_n B dL_law_1115 rfl ?_
          refine j_iload_n B dL_law_1116 rfl ?_
          refine j_iconst (v := 2) B dL_law_1117 (by decide) ?_
          refine j_iadd B dL_law_1118 ?_
          refine j_sld B hX hbl dL_law_1119 hF (fun i1119 hF => ?_)
          obtain ⟨i1120, w1120, e1120, hF⟩ := bc hF
          refine j_rV (st2 := [.int i1120]) B [.int i1114, .int i1119] [] cv_L_117 dL_law_1120 hl hR (ct_X0_kindFor G e1120) (rmOk_mk rfl rfl (Nat.le_of_ble_eq_true rfl) (Nat.le_of_ble_eq_true rfl) (by show _ ≤ 601024; omega) (by show _ ≤ 7293034; omega)) rfl rfl rfl trivial (Nat.le_of_ble_eq_true rfl) ?_
          refine j_aload_n B dL_law_1123 rfl ?_
          refine j_aload_n B dL_law_1124 rfl ?_
          refine j_iload_n B dL_law_1125 rfl ?_
          refine j_iconst (v := 1) B dL_law_1126 (by decide) ?_
          refine j_iadd B dL_law_1127 ?_
          refine j_sld B hX hbl dL_law_1128 hF (fun i1128 hF => ?_)
          refine j_aload_n B dL_law_1129 rfl ?_
          refine j_iload_n B dL_law_1130 rfl ?_
          refine j_iconst (v := 2) B dL_law_1131 (by decide) ?_
          refine j_iadd B dL_law_1132 ?_
          refine j_sld B hX hbl dL_law_1133 hF (fun i1133 hF => ?_)
          obtain ⟨i1134, w1134, e1134, hF⟩ := bc hF
          refine j_rV (st2 := [.int i1134, .int i1120]) B [.int i1128, .int i1133] [.int i1120] cv_L_120 dL_law_1134 hl hR (ct_X13_kindFor G e1134) (rmOk_mk rfl rfl (Nat.le_of_ble_eq_true rfl) (Nat.le_of_ble_eq_true rfl) (by show _ ≤ 601024; omega) (by show _ ≤ 7293034; omega)) rfl rfl rfl ⟨rfl, trivial⟩ (Nat.le_of_ble_eq_true rfl) ?_
          refine j_icmp_eq (tgt := 1771) B dL_law_1137 (by decide) hF (fun h1137 hF => ?_) (fun h1137 hF => ?_)
          · refine j_widen (k' := 517 + (j + 1)) (n' := 6567 + 40 * (j + 1)) (by omega) (by omega) ?_
            exact jb1771 hj9 a1 a2 w1134 hF
          · refine j_iconst (v := 0) B dL_law_1140 (by decide) ?_
            exact j_lZw B (by decide) rfl dL_law_1141 hF (by omega) (by omega)
        rw [if_neg t33_25] at hF
        by_cases t33_26 : (i29 &&& 63) = 26
        · rw [if_pos t33_26] at hF
          refine j_tblIn (tgt := 1142) B 26 dL_law_33 t33_26 (by decide) rfl (by decide) ?_
          refine j_aload_n B dL_law_1142 rfl ?_
          refine j_aload_n B dL_law_1143 rfl ?_
          refine j_iload_n B dL_law_1144 rfl ?_
          refine j_iconst (v := 1) B dL_law_1145 (by decide) ?_
          refine j_iadd B dL_law_1146 ?_
          refine j_sld B hX hbl dL_law_1147 hF (fun i1147 hF => ?_)
          refine j_aload_n B dL_law_1148 rfl ?_
          refine j_iload_n B dL_law_1149 rfl ?_
          refine j_iconst (v := 2) B dL_law_1150 (by decide) ?_
          refine j_iadd B dL_law_1151 ?_
          refine j_sld B hX hbl dL_law_1152 hF (fun i1152 hF => ?_)
          obtain ⟨i1153, w1153, e1153, hF⟩ := bc hF
          refine j_rV (st2 := [.int i1153]) B [.int i1147, .int i1152] [] cv_L_121 dL_law_1153 hl hR (ct_X0_bridge G e1153) (rmOk_mk rfl rfl (Nat.le_of_ble_eq_true rfl) (Nat.le_of_ble_eq_true rfl) (by show _ ≤ 601024; omega) (by show _ ≤ 7293034; omega)) rfl rfl rfl trivial (Nat.le_of_ble_eq_true rfl) ?_
          refine j_aload_n B dL_law_1156 rfl ?_
          refine j_aload_n B dL_law_1157 rfl ?_
          refine j_iload_n B dL_law_1158 rfl ?_
          refine j_iconst (v := 1) B dL_law_1159 (by decide) ?_
          refine j_iadd B dL_law_1160 ?_
          refine j_sld B hX hbl dL_law_1161 hF (fun i1161 hF => ?_)
          refine j_aload_n B dL_law_1162 rfl ?_
          refine j_iload_n B dL_law_1163 rfl ?_
          refine j_iconst (v := 2) B dL_law_1164 (by decide) ?_
          refine j_iadd B dL_law_1165 ?_
          refine j_sld B hX hbl dL_law_1166 hF (fun i1166 hF => ?_)
          obtain ⟨i1167, w1167, e1167, hF⟩ := bc hF
          refine j_rV (st2 := [.int i1167, .int i1153]) B [.int i1161, .int i1166] [.int i1153] cv_L_124 dL_law_1167 hl hR (ct_X13_bridge G e1167) (rmOk_mk rfl rfl (Nat.le_of_ble_eq_true rfl) (Nat.le_of_ble_eq_true rfl) (by show _ ≤ 601024; omega) (by show _ ≤ 7293034; omega)) rfl rfl rfl ⟨rfl, trivial⟩ (Nat.le_of_ble_eq_true rfl) ?_
          refine j_icmp_eq (tgt := 1771) B dL_law_1170 (by decide) hF (fun h1170 hF => ?_) (fun h1170 hF => ?_)
          · refine j_widen (k' := 517 + (j + 1)) (n' := 6567 + 40 * (j + 1)) (by omega) (by omega) ?_
            exact jb1771 hj9 a1 a2 w1167 hF
          · refine j_iconst (v := 0) B dL_law_1173 (by decide) ?_
            exact j_lZw B (by decide) rfl dL_law_1174 hF (by omega) (by omega)
        rw [if_neg t33_26] at hF
        by_cases t33_27 : (i29 &&& 63) = 27
        · rw [if_pos t33_27] at hF
          refine j_tblIn (tgt := 1175) B 27 dL_law_33 t33_27 (by decide) rfl (by decide) ?_
          refine j_aload_n B dL_law_1175 rfl ?_
          refine j_aload_n B dL_law_1176 rfl ?_
          refine j_iload_n B dL_law_1177 rfl ?_
          refine j_iconst (v := 1) B dL_law_1178 (by decide) ?_
          refine j_iadd B dL_law_1179 ?_
          refine j_sld B hX hbl dL_law_1180 hF (fun i1180 hF => ?_)
          refine j_aload_n B dL_law_1181 rfl ?_
          refine j_iload_n B dL_law_1182 rfl ?_
          refine j_iconst (v := 2) B dL_law_1183 (by decide) ?_
          refine j_iadd B dL_law_1184 ?_
          refine j_sld B hX hbl dL_law_1185 hF (fun i1185 hF => ?_)
          obtain ⟨i1186, w1186, e1186, hF⟩ := bc hF
          refine j_rV (st2 := [.int i1186]) B [.int i1180, .int i1185] [] cv_L_125 dL_law_1186 hl hR (ct_X0_worth G e1186) (rmOk_mk rfl rfl (Nat.le_of_ble_eq_true rfl) (Nat.le_of_ble_eq_true rfl) (by show _ ≤ 601024; omega) (by show _ ≤ 7293034; omega)) rfl rfl rfl trivial (Nat.le_of_ble_eq_true rfl) ?_
          refine j_aload_n B dL_law_1189 rfl ?_
          refine j_aload_n B dL_law_1190 rfl ?_
          refine j_iload_n B dL_law_1191 rfl ?_
          refine j_iconst (v := 1) B dL_law_1192 (by decide) ?_
          refine j_iadd B dL_law_1193 ?_
          refine j_sld B hX hbl dL_law_1194 hF (fun i1194 hF => ?_)
          refine j_aload_n B dL_law_1195 rfl ?_
          refine j_iload_n B dL_law_1196 rfl ?_
          refine j_iconst (v := 2) B dL_law_1197 (by decide) ?_
          refine j_iadd B dL_law_1198 ?_
          refine j_sld B hX hbl dL_law_1199 hF (fun i1199 hF => ?_)
          obtain ⟨i1200, w1200, e1200, hF⟩ := bc hF
          refine j_rV (st2 := [.int i1200, .int i1186]) B [.int i1194, .int i1199] [.int i1186] cv_L_128 dL_law_1200 hl hR (ct_X13_worth G e1200) (rmOk_mk rfl rfl (Nat.le_of_ble_eq_true rfl) (Nat.le_of_ble_eq_true rfl) (by show _ ≤ 601024; omega) (by show _ ≤ 7293034; omega)) rfl rfl rfl ⟨rfl, trivial⟩ (Nat.le_of_ble_eq_true rfl) ?_
          refine j_icmp_eq (tgt := 1771) B dL_law_1203 (by decide) hF (fun h1203 hF => ?_) (fun h1203 hF => ?_)
          · refine j_widen (k' := 517 + (j + 1)) (n' := 6567 + 40 * (j + 1)) (by omega) (by omega) ?_
            exact jb1771 hj9 a1 a2 w1200 hF
          · refine j_iconst (v := 0) B dL_law_1206 (by decide) ?_
            exact j_lZw B (by decide) rfl dL_law_1207 hF (by omega) (by omega)
        rw [if_neg t33_27] at hF
        by_cases t33_28 : (i29 &&& 63) = 28
        · rw [if_pos t33_28] at hF
          refine j_tblIn (tgt := 1208) B 28 dL_law_33 t33_28 (by decide) rfl (by decide) ?_
          refine j_aload_n B dL_law_1208 rfl ?_
          refine j_aload_n B dL_law_1209 rfl ?_
          refine j_iload_n B dL_law_1210 rfl ?_
          refine j_iconst (v := 1) B dL_law_1211 (by decide) ?_
          refine j_iadd B dL_law_1212 ?_
          refine j_sld B hX hbl dL_law_1213 hF (fun i1213 hF => ?_)
          obtain ⟨i1214, w1214, e1214, hF⟩ := bc hF
          refine j_rV (st2 := [.int i1214]) B [.int i1213] [] cv_L_129 dL_law_1214 hl hR (ct_X0_reach G e1214) (rmOk_mk rfl rfl (Nat.le_of_ble_eq_true rfl) (Nat.le_of_ble_eq_true rfl) (by show _ ≤ 601024; omega) (by show _ ≤ 7293034; omega)) rfl rfl rfl trivial (Nat.le_of_ble_eq_true rfl) ?_
          refine j_aload_n B dL_law_1217 rfl ?_
          refine j_aload_n B dL_law_1218 rfl ?_
          refine j_iload_n B dL_law_1219 rfl ?_
          refine j_iconst (v := 1) B dL_law_1220 (by decide) ?_
          refine j_iadd B dL_law_1221 ?_
          refine j_sld B hX hbl dL_law_1222 hF (fun i1222 hF => ?_)
          obtain ⟨i1223, w1223, e1223, hF⟩ := bc hF
          refine j_rV (st2 := [.int i1223, .int i1214]) B [.int i1222] [.int i1214] cv_L_132 dL_law_1223 hl hR (ct_X13_reach G e1223) (rmOk_mk rfl rfl (Nat.le_of_ble_eq_true rfl) (Nat.le_of_ble_eq_true rfl) (by show _ ≤ 601024; omega) (by show _ ≤ 7293034; omega)) rfl rfl rfl ⟨rfl, trivial⟩ (Nat.le_of_ble_eq_true rfl) ?_
          refine j_icmp_eq (tgt := 1771) B dL_law_1226 (by decide) hF (fun h1226 hF => ?_) (fun h1226 hF => ?_)
          · refine j_widen (k' := 517 + (j + 1)) (n' := 6567 + 40 * (j + 1)) (by omega) (by omega) ?_
            exact jb1771 hj9 a1 a2 w1223 hF
          · refine j_iconst (v := 0) B dL_law_1229 (by decide) ?_
            exact j_lZw B (by decide) rfl dL_law_1230 hF (by omega) (by omega)
        rw [if_neg t33_28] at hF
        by_cases t33_29 : (i29 &&& 63) = 29
        · rw [if_pos t33_29] at hF
          refine j_tblIn (tgt := 1231) B 29 dL_law_33 t33_29 (by decide) rfl (by decide) ?_
          refine j_aload_n B dL_law_1231 rfl ?_
          refine j_aload_n B dL_law_1232 rfl ?_
          refine j_iload_n B dL_law_1233 rfl ?_
          refine j_iconst (v := 1) B dL_law_1234 (by decide) ?_
          refine j_iadd B dL_law_1235 ?_
          refine j_sld B hX hbl dL_law_1236 hF (fun i1236 hF => ?_)
          obtain ⟨i1237, w1237, e1237, hF⟩ := bc hF
          refine j_rV (st2 := [.int i1237]) B [.int i1236] [] cv_L_133 dL_law_1237 hl hR (ct_X0_middle G e1237) (rmOk_mk rfl rfl (Nat.le_of_ble_eq_true rfl) (Nat.le_of_ble_eq_true rfl) (by show _ ≤ 601024; omega) (by show _ ≤ 7293034; omega)) rfl rfl rfl trivial (Nat.le_of_ble_eq_true rfl) ?_
          refine j_aload_n B dL_law_1240 rfl ?_
          refine j_aload_n B dL_law_1241 rfl ?_
          refine j_iload_n B dL_law_1242 rfl ?_
          refine j_iconst (v := 1) B dL_law_1243 (by decide) ?_
          refine j_iadd B dL_law_1244 ?_
          refine j_sld B hX hbl dL_law_1245 hF (fun i1245 hF => ?_)
          obtain ⟨i1246, w1246, e1246, hF⟩ := bc hF
          refine j_rV (st2 := [.int i1246, .int i1237]) B [.int i1245] [.int i1237] cv_L_136 dL_law_1246 hl hR (ct_X13_middle G e1246) (rmOk_mk rfl rfl (Nat.le_of_ble_eq_true rfl) (Nat.le_of_ble_eq_true rfl) (by show _ ≤ 601024; omega) (by show _ ≤ 7293034; omega)) rfl rfl rfl ⟨rfl, trivial⟩ (Nat.le_of_ble_eq_true rfl) ?_
          refine j_icmp_eq (tgt := 1771) B dL_law_1249 (by decide) hF (fun h1249 hF => ?_) (fun h1249 hF => ?_)
          · refine j_widen (k' := 517 + (j + 1)) (n' := 6567 + 40 * (j + 1)) (by omega) (by omega) ?_
            exact jb1771 hj9 a1 a2 w1246 hF
          · refine j_iconst (v := 0) B dL_law_1252 (by decide) ?_
            exact j_lZw B (by decide) rfl dL_law_1253 hF (by omega) (by omega)
        rw [if_neg t33_29] at hF
        by_cases t33_30 : (i29 &&& 63) = 30
        · rw [if_pos t33_30] at hF
          refine j_tblIn (tgt := 1254) B 30 dL_law_33 t33_30 (by decide) rfl (by decide) ?_
          refine j_aload_n B dL_law_1254 rfl ?_
          refine j_aload_n B dL_law_1255 rfl ?_
          refine j_iload_n B dL_law_1256 rfl ?_
          refine j_iconst (v := 1) B dL_law_1257 (by decide) ?_
          refine j_iadd B dL_law_1258 ?_
          refine j_sld B hX hbl dL_law_1259 hF (fun i1259 hF => ?_)
          refine j_aload_n B dL_law_1260 rfl ?_
          refine j_iload_n B dL_law_1261 rfl ?_
          refine j_iconst (v := 2) B dL_law_1262 (by decide) ?_
          refine j_iadd B dL_law_1263 ?_
          refine j_sld B hX hbl dL_law_1264 hF (fun i1264 hF => ?_)
          obtain ⟨i1265, w1265, e1265, hF⟩ := bc hF
          refine j_rV (st2 := [.int i1265]) B [.int i1259, .int i1264] [] cv_L_137 dL_law_1265 hl hR (ct_X0_heavy G e1265) (rmOk_mk rfl rfl (Nat.le_of_ble_eq_true rfl) (Nat.le_of_ble_eq_true rfl) (by show _ ≤ 601024; omega) (by show _ ≤ 7293034; omega)) rfl rfl rfl trivial (Nat.le_of_ble_eq_true rfl) ?_
          refine j_aload_n B dL_law_1268 rfl ?_
          refine j_aload_n B dL_law_1269 rfl ?_
          refine j_iload_n B dL_law_1270 rfl ?_
          refine j_iconst (v := 1) B dL_law_1271 (by decide) ?_
          refine j_iadd B dL_law_1272 ?_
          refine j_sld B hX hbl dL_law_1273 hF (fun i1273 hF => ?_)
          refine j_aload_n B dL_law_1274 rfl ?_
          refine j_iload_n B dL_law_1275 rfl ?_
          refine j_iconst (v := 2) B dL_law_1276 (by decide) ?_
          refine j_iadd B dL_law_1277 ?_
          refine j_sld B hX hbl dL_law_1278 hF (fun i1278 hF => ?_)
          obtain ⟨i1279, w1279, e1279, hF⟩ := bc hF
          refine j_rV (st2 := [.int i1279, .int i1265]) B [.int i1273, .int i1278] [.int i1265] cv_L_140 dL_law_1279 hl hR (ct_X13_heavy G e1279) (rmOk_mk rfl rfl (Nat.le_of_ble_eq_true rfl) (Nat.le_of_ble_eq_true rfl) (by show _ ≤ 601024; omega) (by show _ ≤ 7293034; omega)) rfl rfl rfl ⟨rfl, trivial⟩ (Nat.le_of_ble_eq_true rfl) ?_
          refine j_icmp_eq (tgt := 1771) B dL_law_1282 (by decide) hF (fun h1282 hF => ?_) (fun h1282 hF => ?_)
          · refine j_widen (k' := 517 + (j + 1)) (n' := 6567 + 40 * (j + 1)) (by omega) (by omega) ?_
            exact jb1771 hj9 a1 a2 w1279 hF
          · refine j_iconst (v := 0) B dL_law_1285 (by decide) ?_
            exact j_lZw B (by decide) rfl dL_law_1286 hF (by omega) (by omega)
        rw [if_neg t33_30] at hF
        by_cases t33_31 : (i29 &&& 63) = 31
        · rw [if_pos t33_31] at hF
          refine j_tblIn (tgt := 1287) B 31 dL_law_33 t33_31 (by decide) rfl (by decide) ?_
          refine j_aload_n B dL_law_1287 rfl ?_
          refine j_aload_n B dL_law_1288 rfl ?_
          refine j_iload_n B dL_law_1289 rfl ?_
          refine j_iconst (v := 1) B dL_law_1290 (by decide) ?_
          refine j_iadd B dL_law_1291 ?_
          refine j_sld B hX hbl dL_law_1292 hF (fun i1292 hF => ?_)
          obtain ⟨i1293, w1293, e1293, hF⟩ := bc hF
          refine j_rV (st2 := [.int i1293]) B [.int i1292] [] cv_L_141 dL_law_1293 hl hR (ct_X0_day G e1293) (rmOk_mk rfl rfl (Nat.le_of_ble_eq_true rfl) (Nat.le_of_ble_eq_true rfl) (by show _ ≤ 601024; omega) (by show _ ≤ 7293034; omega)) rfl rfl rfl trivial (Nat.le_of_ble_eq_true rfl) ?_
          refine j_aload_n B dL_law_1296 rfl ?_
          refine j_aload_n B dL_law_1297 rfl ?_
          refine j_iload_n B dL_law_1298 rfl ?_
          refine j_iconst (v := 1) B dL_law_1299 (by decide) ?_
          refine j_iadd B dL_law_1300 ?_
          refine j_sld B hX hbl dL_law_1301 hF (fun i1301 hF => ?_)
          obtain ⟨i1302, w1302, e1302, hF⟩ := bc hF
          refine j_rV (st2 := [.int i1302, .int i1293]) B [.int i1301] [.int i1293] cv_L_144 dL_law_1302 hl hR (ct_X13_day G e1302) (rmOk_mk rfl rfl (Nat.le_of_ble_eq_true rfl) (Nat.le_of_ble_eq_true rfl) (by show _ ≤ 601024; omega) (by show _ ≤ 7293034; omega)) rfl rfl rfl ⟨rfl, trivial⟩ (Nat.le_of_ble_eq_true rfl) ?_
          refine j_icmp_eq (tgt := 1771) B dL_law_1305 (by decide) hF (fun h1305 hF => ?_) (fun h1305 hF => ?_)
          · refine j_widen (k' := 517 + (j + 1)) (n' := 6567 + 40 * (j + 1)) (by omega) (by omega) ?_
            exact jb1771 hj9 a1 a2 w1302 hF
          · refine j_iconst (v := 0) B dL_law_1308 (by decide) ?_
            exact j_lZw B (by decide) rfl dL_law_1309 hF (by omega) (by omega)
        rw [if_neg t33_31] at hF
        by_cases t33_32 : (i29 &&& 63) = 32
        · rw [if_pos t33_32] at hF
          refine j_tblIn (tgt := 1310) B 32 dL_law_33 t33_32 (by decide) rfl (by decide) ?_
          refine j_aload_n B dL_law_1310 rfl ?_
          refine j_aload_n B dL_law_1311 rfl ?_
          refine j_iload_n B dL_law_1312 rfl ?_
          refine j_iconst (v := 1) B dL_law_1313 (by decide) ?_
          refine j_iadd B dL_law_1314 ?_
          refine j_sld B hX hbl dL_law_1315 hF (fun i1315 hF => ?_)
          obtain ⟨i1316, w1316, e1316, hF⟩ := bc hF
          refine j_rVX (st2 := [.int i1316]) B [.int i1315] [] cx_L_145 dL_law_1316 hl hR (ct_X0_ahead G e1316) (rmOk_mk rfl rfl (Nat.le_of_ble_eq_true rfl) (Nat.le_of_ble_eq_true rfl) (by show _ ≤ 601024; omega) (by show _ ≤ 7293034; omega)) rfl rfl rfl trivial (Nat.le_of_ble_eq_true rfl) ?_
          refine j_aload_n B dL_law_1319 rfl ?_
          refine j_aload_n B dL_law_1320 rfl ?_
          refine j_iload_n B dL_law_1321 rfl ?_
          refine j_iconst (v := 1) B dL_law_1322 (by decide) ?_
          refine j_iadd B dL_law_1323 ?_
          refine j_sld B hX hbl dL_law_1324 hF (fun i1324 hF => ?_)
          obtain ⟨i1325, w1325, e1325, hF⟩ := bc hF
          refine j_rV (st2 := [.int i1325, .int i1316]) B [.int i1324] [.int i1316] cv_L_148 dL_law_1325 hl hR (ct_X13_ahead G e1325) (rmOk_mk rfl rfl (Nat.le_of_ble_eq_true rfl) (Nat.le_of_ble_eq_true rfl) (by show _ ≤ 601024; omega) (by show _ ≤ 7293034; omega)) rfl rfl rfl ⟨rfl, trivial⟩ (Nat.le_of_ble_eq_true rfl) ?_
          refine j_icmp_eq (tgt := 1771) B dL_law_1328 (by decide) hF (fun h1328 hF => ?_) (fun h1328 hF => ?_)
          · refine j_widen (k' := 517 + (j + 1)) (n' := 6567 + 40 * (j + 1)) (by omega) (by omega) ?_
            exact jb1771 hj9 a1 a2 w1325 hF
          · refine j_iconst (v := 0) B dL_law_1331 (by decide) ?_
            exact j_lZw B (by decide) rfl dL_law_1332 hF (by omega) (by omega)
        rw [if_neg t33_32] at hF
        by_cases t33_33 : (i29 &&& 63) = 33
        · rw [if_pos t33_33] at hF
          refine j_tblIn (tgt := 1333) B 33 dL_law_33 t33_33 (by decide) rfl (by decide) ?_
          refine j_aload_n B dL_law_1333 rfl ?_
          refine j_aload_n B dL_law_1334 rfl ?_
          refine j_iload_n B dL_law_1335 rfl ?_
          refine j_iconst (v := 1) B dL_law_1336 (by decide) ?_
          refine j_iadd B dL_law_1337 ?_
          refine j_sld B hX hbl dL_law_1338 hF (fun i1338 hF => ?_)
          obtain ⟨i1339, w1339, e1339, hF⟩ := bc hF
          refine j_rV (st2 := [.int i1339]) B [.int i1338] [] cv_L_149 dL_law_1339 hl hR (ct_X0_seed G e1339) (rmOk_mk rfl rfl (Nat.le_of_ble_eq_true rfl) (Nat.le_of_ble_eq_true rfl) (by show _ ≤ 601024; omega) (by show _ ≤ 7293034; omega)) rfl rfl rfl trivial (Nat.le_of_ble_eq_true rfl) ?_
          refine j_aload_n B dL_law_1342 rfl ?_
          refine j_aload_n B dL_law_1343 rfl ?_
          refine j_iload_n B dL_law_1344 rfl ?_
          refine j_iconst (v := 1) B dL_law_1345 (by decide) ?_
          refine j_iadd B dL_law_1346 ?_
          refine j_sld B hX hbl dL_law_1347 hF (fun i1347 hF => ?_)
          obtain ⟨i1348, w1348, e1348, hF⟩ := bc hF
          refine j_rV (st2 := [.int i1348, .int i1339]) B [.int i1347] [.int i1339] cv_L_152 dL_law_1348 hl hR (ct_X13_seed G e1348) (rmOk_mk rfl rfl (Nat.le_of_ble_eq_true rfl) (Nat.le_of_ble_eq_true rfl) (by show _ ≤ 601024; omega) (by show _ ≤ 7293034; omega)) rfl rfl rfl ⟨rfl, trivial⟩ (Nat.le_of_ble_eq_true rfl) ?_
          refine j_icmp_eq (tgt := 1771) B dL_law_1351 (by decide) hF (fun h1351 hF => ?_) (fun h1351 hF => ?_)
          · refine j_widen (k' := 517 + (j + 1)) (n' := 6567 + 40 * (j + 1)) (by omega) (by omega) ?_
            exact jb1771 hj9 a1 a2 w1348 hF
          · refine j_iconst (v := 0) B dL_law_1354 (by decide) ?_
            exact j_lZw B (by decide) rfl dL_law_1355 hF (by omega) (by omega)
        rw [if_neg t33_33] at hF
        by_cases t33_34 : (i29 &&& 63) = 34
        · rw [if_pos t33_34] at hF
          refine j_tblIn (tgt := 1356) B 34 dL_law_33 t33_34 (by decide) rfl (by decide) ?_
          refine j_aload_n B dL_law_1356 rfl ?_
          refine j_aload_n B dL_law_1357 rfl ?_
          refine j_iload_n B dL_law_1358 rfl ?_
          refine j_iconst (v := 1) B dL_law_1359 (by decide) ?_
          refine j_iadd B dL_law_1360 ?_
          refine j_sld B hX hbl dL_law_1361 hF (fun i1361 hF => ?_)
          refine j_aload_n B dL_law_1362 rfl ?_
          refine j_iload_n B dL_law_1363 rfl ?_
          refine j_iconst (v := 2) B dL_law_1364 (by decide) ?_
          refine j_iadd B dL_law_1365 ?_
          refine j_sld B hX hbl dL_law_1366 hF (fun i1366 hF => ?_)
          obtain ⟨i1367, w1367, e1367, hF⟩ := bc hF
          refine j_rV (st2 := [.int i1367]) B [.int i1361, .int i1366] [] cv_L_153 dL_law_1367 hl hR (ct_X0_feed G e1367) (rmOk_mk rfl rfl (Nat.le_of_ble_eq_true rfl) (Nat.le_of_ble_eq_true rfl) (by show _ ≤ 601024; omega) (by show _ ≤ 7293034; omega)) rfl rfl rfl trivial (Nat.le_of_ble_eq_true rfl) ?_
          refine j_aload_n B dL_law_1370 rfl ?_
          refine j_aload_n B dL_law_1371 rfl ?_
          refine j_iload_n B dL_law_1372 rfl ?_
          refine j_iconst (v := 1) B dL_law_1373 (by decide) ?_
          refine j_iadd B dL_law_1374 ?_
          refine j_sld B hX hbl dL_law_1375 hF (fun i1375 hF => ?_)
          refine j_aload_n B dL_law_1376 rfl ?_
          refine j_iload_n B dL_law_1377 rfl ?_
          refine j_iconst (v := 2) B dL_law_1378 (by decide) ?_
          refine j_iadd B dL_law_1379 ?_
          refine j_sld B hX hbl dL_law_1380 hF (fun i1380 hF => ?_)
          obtain ⟨i1381, w1381, e1381, hF⟩ := bc hF
          refine j_rV (st2 := [.int i1381, .int i1367]) B [.int i1375, .int i1380] [.int i1367] cv_L_156 dL_law_1381 hl hR (ct_X13_feed G e1381) (rmOk_mk rfl rfl (Nat.le_of_ble_eq_true rfl) (Nat.le_of_ble_eq_true rfl) (by show _ ≤ 601024; omega) (by show _ ≤ 7293034; omega)) rfl rfl rfl ⟨rfl, trivial⟩ (Nat.le_of_ble_eq_true rfl) ?_
          refine j_icmp_eq (tgt := 1771) B dL_law_1384 (by decide) hF (fun h1384 hF => ?_) (fun h1384 hF => ?_)
          · refine j_widen (k' := 517 + (j + 1)) (n' := 6567 + 40 * (j + 1)) (by omega) (by omega) ?_
            exact jb1771 hj9 a1 a2 w1381 hF
          · refine j_iconst (v := 0) B dL_law_1387 (by decide) ?_
            exact j_lZw B (by decide) rfl dL_law_1388 hF (by omega) (by omega)
        rw [if_neg t33_34] at hF
        by_cases t33_35 : (i29 &&& 63) = 35
        · rw [if_pos t33_35] at hF
          refine j_tblIn (tgt := 1389) B 35 dL_law_33 t33_35 (by decide) rfl (by decide) ?_
          refine j_aload_n B dL_law_1389 rfl ?_
          obtain ⟨i1390, w1390, e1390, hF⟩ := bc hF
          refine j_rV (st2 := [.int i1390]) B [] [] cv_L_157 dL_law_1390 hl hR (ct_X0_wipe G e1390) (rmOk_mk rfl rfl (Nat.le_of_ble_eq_true rfl) (Nat.le_of_ble_eq_true rfl) (by show _ ≤ 601024; omega) (by show _ ≤ 7293034; omega)) rfl rfl rfl trivial (Nat.le_of_ble_eq_true rfl) ?_
          refine j_aload_n B dL_law_1393 rfl ?_
          obtain ⟨i1394, w1394, e1394, hF⟩ := bc hF
          refine j_rV (st2 := [.int i1394, .int i1390]) B [] [.int i1390] cv_L_161 dL_law_1394 hl hR (ct_X13_wipe G e1394) (rmOk_mk rfl rfl (Nat.le_of_ble_eq_true rfl) (Nat.le_of_ble_eq_true rfl) (by show _ ≤ 601024; omega) (by show _ ≤ 7293034; omega)) rfl rfl rfl ⟨rfl, trivial⟩ (Nat.le_of_ble_eq_true rfl) ?_
          refine j_icmp_eq (tgt := 1771) B dL_law_1397 (by decide) hF (fun h1397 hF => ?_) (fun h1397 hF => ?_)
          · refine j_widen (k' := 517 + (j + 1)) (n' := 6567 + 40 * (j + 1)) (by omega) (by omega) ?_
            exact jb1771 hj9 a1 a2 w1394 hF
          · refine j_iconst (v := 0) B dL_law_1400 (by decide) ?_
            exact j_lZw B (by decide) rfl dL_law_1401 hF (by omega) (by omega)
        rw [if_neg t33_35] at hF
        by_cases t33_36 : (i29 &&& 63) = 36
        · rw [if_pos t33_36] at hF
          refine j_tblIn (tgt := 1402) B 36 dL_law_33 t33_36 (by decide) rfl (by decide) ?_
          refine j_aload_n B dL_law_1402 rfl ?_
          obtain ⟨i1403, w1403, e1403, hF⟩ := bc hF
          refine j_rVX (st2 := [.int i1403]) B [] [] cx_L_162 dL_law_1403 hl hR (ct_X0_text G e1403) (rmOk_mk rfl rfl (Nat.le_of_ble_eq_true rfl) (Nat.le_of_ble_eq_true rfl) (by show _ ≤ 601024; omega) (by show _ ≤ 7293034; omega)) rfl rfl rfl trivial (Nat.le_of_ble_eq_true rfl) ?_
          refine j_aload_n B dL_law_1406 rfl ?_
          obtain ⟨i1407, w1407, e1407, hF⟩ := bc hF
          refine j_rV (st2 := [.int i1407, .int i1403]) B [] [.int i1403] cv_L_165 dL_law_1407 hl hR (ct_X13_text G e1407) (rmOk_mk rfl rfl (Nat.le_of_ble_eq_true rfl) (Nat.le_of_ble_eq_true rfl) (by show _ ≤ 601024; omega) (by show _ ≤ 7293034; omega)) rfl rfl rfl ⟨rfl, trivial⟩ (Nat.le_of_ble_eq_true rfl) ?_
          refine j_icmp_eq (tgt := 1771) B dL_law_1410 (by decide) hF (fun h1410 hF => ?_) (fun h1410 hF => ?_)
          · refine j_widen (k' := 517 + (j + 1)) (n' := 6567 + 40 * (j + 1)) (by omega) (by omega) ?_
            exact jb1771 hj9 a1 a2 w1407 hF
          · refine j_iconst (v := 0) B dL_law_1413 (by decide) ?_
            exact j_lZw B (by decide) rfl dL_law_1414 hF (by omega) (by omega)
        rw [if_neg t33_36] at hF
        by_cases t33_37 : (i29 &&& 63) = 37
        · rw [if_pos t33_37] at hF
          refine j_tblIn (tgt := 1415) B 37 dL_law_33 t33_37 (by decide) rfl (by decide) ?_
          refine j_aload_n B dL_law_1415 rfl ?_
          refine j_aload_n B dL_law_1416 rfl ?_
          refine j_iload_n B dL_law_1417 rfl ?_
          refine j_iconst (v := 1) B dL_law_1418 (by decide) ?_
          refine j_iadd B dL_law_1419 ?_
          refine j_sld B hX hbl dL_law_1420 hF (fun i1420 hF => ?_)
          refine j_aload_n B dL_law_1421 rfl ?_
          refine j_iload_n B dL_law_1422 rfl ?_
          refine j_iconst (v := 2) B dL_law_1423 (by decide) ?_
          refine j_iadd B dL_law_1424 ?_
          refine j_sld B hX hbl dL_law_1425 hF (fun i1425 hF => ?_)
          obtain ⟨i1426, w1426, e1426, hF⟩ := bc hF
          refine j_rV (st2 := [.int i1426]) B [.int i1420, .int i1425] [] cv_L_166 dL_law_1426 hl hR (ct_X0_hold G e1426) (rmOk_mk rfl rfl (Nat.le_of_ble_eq_true rfl) (Nat.le_of_ble_eq_true rfl) (by show _ ≤ 601024; omega) (by show _ ≤ 7293034; omega)) rfl rfl rfl trivial (Nat.le_of_ble_eq_true rfl) ?_
          refine j_aload_n B dL_law_1429 rfl ?_
          refine j_aload_n B dL_law_1430 rfl ?_
          refine j_iload_n B dL_law_1431 rfl ?_
          refine j_iconst (v := 1) B dL_law_1432 (by decide) ?_
          refine j_iadd B dL_law_1433 ?_
          refine j_sld B hX hbl dL_law_1434 hF (fun i1434 hF => ?_)
          refine j_aload_n B dL_law_1435 rfl ?_
          refine j_iload_n B dL_law_1436 rfl ?_
          refine j_iconst (v := 2) B dL_law_1437 (by decide) ?_
          refine j_iadd B dL_law_1438 ?_
          refine j_sld B hX hbl dL_law_1439 hF (fun i1439 hF => ?_)
          obtain ⟨i1440, w1440, e1440, hF⟩ := bc hF
          refine j_rV (st2 := [.int i1440, .int i1426]) B [.int i1434, .int i1439] [.int i1426] cv_L_169 dL_law_1440 hl hR (ct_X13_hold G e1440) (rmOk_mk rfl rfl (Nat.le_of_ble_eq_true rfl) (Nat.le_of_ble_eq_true rfl) (by show _ ≤ 601024; omega) (by show _ ≤ 7293034; omega)) rfl rfl rfl ⟨rfl, trivial⟩ (Nat.le_of_ble_eq_true rfl) ?_
          refine j_icmp_eq (tgt := 1771) B dL_law_1443 (by decide) hF (fun h1443 hF => ?_) (fun h1443 hF => ?_)
          · refine j_widen (k' := 517 + (j + 1)) (n' := 6567 + 40 * (j + 1)) (by omega) (by omega) ?_
            exact jb1771 hj9 a1 a2 w1440 hF
          · refine j_iconst (v := 0) B dL_law_1446 (by decide) ?_
            exact j_lZw B (by decide) rfl dL_law_1447 hF (by omega) (by omega)
        rw [if_neg t33_37] at hF
        by_cases t33_38 : (i29 &&& 63) = 38
        · rw [if_pos t33_38] at hF
          refine j_tblIn (tgt := 1448) B 38 dL_law_33 t33_38 (by decide) rfl (by decide) ?_
          refine j_aload_n B dL_law_1448 rfl ?_
          refine j_aload_n B dL_law_1449 rfl ?_
          refine j_iload_n B dL_law_1450 rfl ?_
          refine j_iconst (v := 1) B dL_law_1451 (by decide) ?_
          refine j_iadd B dL_law_1452 ?_
          refine j_sld B hX hbl dL_law_1453 hF (fun i1453 hF => ?_)
          refine j_aload_n B dL_law_1454 rfl ?_
          refine j_iload_n B dL_law_1455 rfl ?_
          refine j_iconst (v := 2) B dL_law_1456 (by decide) ?_
          refine j_iadd B dL_law_1457 ?_
          refine j_sld B hX hbl dL_law_1458 hF (fun i1458 hF => ?_)
          obtain ⟨i1459, w1459, e1459, hF⟩ := bc hF
          refine j_rV (st2 := [.int i1459]) B [.int i1453, .int i1458] [] cv_L_170 dL_law_1459 hl hR (ct_X0_as G e1459) (rmOk_mk rfl rfl (Nat.le_of_ble_eq_true rfl) (Nat.le_of_ble_eq_true rfl) (by show _ ≤ 601024; omega) (by show _ ≤ 7293034; omega)) rfl rfl rfl trivial (Nat.le_of_ble_eq_true rfl) ?_
          refine j_aload_n B dL_law_1462 rfl ?_
          refine j_aload_n B dL_law_1463 rfl ?_
          refine j_iload_n B dL_law_1464 rfl ?_
          refine j_iconst (v := 1) B dL_law_1465 (by decide) ?_
          refine j_iadd B dL_law_1466 ?_
          refine j_sld B hX hbl dL_law_1467 hF (fun i1467 hF => ?_)
          refine j_aload_n B dL_law_1468 rfl ?_
          refine j_iload_n B dL_law_1469 rfl ?_
          refine j_iconst (v := 2) B dL_law_1470 (by decide) ?_
          refine j_iadd B dL_law_1471 ?_
          refine j_sld B hX hbl dL_law_1472 hF (fun i1472 hF => ?_)
          obtain ⟨i1473, w1473, e1473, hF⟩ := bc hF
          refine j_rV (st2 := [.int i1473, .int i1459]) B [.int i1467, .int i1472] [.int i1459] cv_L_173 dL_law_1473 hl hR (ct_X13_as G e1473) (rmOk_mk rfl rfl (Nat.le_of_ble_eq_true rfl) (Nat.le_of_ble_eq_true rfl) (by show _ ≤ 601024; omega) (by show _ ≤ 7293034; omega)) rfl rfl rfl ⟨rfl, trivial⟩ (Nat.le_of_ble_eq_true rfl) ?_
          refine j_icmp_eq (tgt := 1771) B dL_law_1476 (by decide) hF (fun h1476 hF => ?_) (fun h1476 hF => ?_)
          · refine j_widen (k' := 517 + (j + 1)) (n' := 6567 + 40 * (j + 1)) (by omega) (by omega) ?_
            exact jb1771 hj9 a1 a2 w1473 hF
          · refine j_iconst (v := 0) B dL_law_1479 (by decide) ?_
            exact j_lZw B (by decide) rfl dL_law_1480 hF (by omega) (by omega)
        rw [if_neg t33_38] at hF
        by_cases t33_39 : (i29 &&& 63) = 39
        · rw [if_pos t33_39] at hF
          refine j_tblIn (tgt := 1481) B 39 dL_law_33 t33_39 (by decide) rfl (by decide) ?_
          refine j_aload_n B dL_law_1481 rfl ?_
          refine j_aload_n B dL_law_1482 rfl ?_
          refine j_iload_n B dL_law_1483 rfl ?_
          refine j_iconst (v := 1) B dL_law_1484 (by decide) ?_
          refine j_iadd B dL_law_1485 ?_
          refine j_sld B hX hbl dL_law_1486 hF (fun i1486 hF => ?_)
          refine j_aload_n B dL_law_1487 rfl ?_
          refine j_iload_n B dL_law_1488 rfl ?_
          refine j_iconst (v := 2) B dL_law_1489 (by decide) ?_
          refine j_iadd B dL_law_1490 ?_
          refine j_sld B hX hbl dL_law_1491 hF (fun i1491 hF => ?_)
          refine j_aload_n B dL_law_1492 rfl ?_
          refine j_iload_n B dL_law_1493 rfl ?_
          refine j_iconst (v := 3) B dL_law_1494 (by decide) ?_
          refine j_iadd B dL_law_1495 ?_
          refine j_sld B hX hbl dL_law_1496 hF (fun i1496 hF => ?_)
          obtain ⟨i1497, w1497, e1497, hF⟩ := bc hF
          refine j_rV (st2 := [.int i1497]) B [.int i1486, .int i1491, .int i1496] [] cv_L_174 dL_law_1497 hl hR (ct_X0_sheet G e1497) (rmOk_mk rfl rfl (Nat.le_of_ble_eq_true rfl) (Nat.le_of_ble_eq_true rfl) (by show _ ≤ 601024; omega) (by show _ ≤ 7293034; omega)) rfl rfl rfl trivial (Nat.le_of_ble_eq_true rfl) ?_
          refine j_aload_n B dL_law_1500 rfl ?_
          refine j_aload_n B dL_law_1501 rfl ?_
          refine j_iload_n B dL_law_1502 rfl ?_
          refine j_iconst (v := 1) B dL_law_1503 (by decide) ?_
          refine j_iadd B dL_law_1504 ?_
          refine j_sld B hX hbl dL_law_1505 hF (fun i1505 hF => ?_)
          refine j_aload_n B dL_law_1506 rfl ?_
          refine j_iload_n B dL_law_1507 rfl ?_
          refine j_iconst (v := 2) B dL_law_1508 (by decide) ?_
          refine j_iadd B dL_law_1509 ?_
          refine j_sld B hX hbl dL_law_1510 hF (fun i1510 hF => ?_)
          refine j_aload_n B dL_law_1511 rfl ?_
          refine j_iload_n B dL_law_1512 rfl ?_
          refine j_iconst (v := 3) B dL_law_1513 (by decide) ?_
          refine j_iadd B dL_law_1514 ?_
          refine j_sld B hX hbl dL_law_1515 hF (fun i1515 hF => ?_)
          obtain ⟨i1516, w1516, e1516, hF⟩ := bc hF
          refine j_rV (st2 := [.int i1516, .int i1497]) B [.int i1505, .int i1510, .int i1515] [.int i1497] cv_L_177 dL_law_1516 hl hR (ct_X13_sheet G e1516) (rmOk_mk rfl rfl (Nat.le_of_ble_eq_true rfl) (Nat.le_of_ble_eq_true rfl) (by show _ ≤ 601024; omega) (by show _ ≤ 7293034; omega)) rfl rfl rfl ⟨rfl, trivial⟩ (Nat.le_of_ble_eq_true rfl) ?_
          refine j_icmp_eq (tgt := 1771) B dL_law_1519 (by decide) hF (fun h1519 hF => ?_) (fun h1519 hF => ?_)
          · refine j_widen (k' := 517 + (j + 1)) (n' := 6567 + 40 * (j + 1)) (by omega) (by omega) ?_
            exact jb1771 hj9 a1 a2 w1516 hF
          · refine j_iconst (v := 0) B dL_law_1522 (by decide) ?_
            exact j_lZw B (by decide) rfl dL_law_1523 hF (by omega) (by omega)
        rw [if_neg t33_39] at hF
        by_cases t33_40 : (i29 &&& 63) = 40
        · rw [if_pos t33_40] at hF
          refine j_tblIn (tgt := 1524) B 40 dL_law_33 t33_40 (by decide) rfl (by decide) ?_
          refine j_aload_n B dL_law_1524 rfl ?_
          refine j_aload_n B dL_law_1525 rfl ?_
          refine j_iload_n B dL_law_1526 rfl ?_
          refine j_iconst (v := 1) B dL_law_1527 (by decide) ?_
          refine j_iadd B dL_law_1528 ?_
          refine j_sld B hX hbl dL_law_1529 hF (fun i1529 hF => ?_)
          refine j_aload_n B dL_law_1530 rfl ?_
          refine j_iload_n B dL_law_1531 rfl ?_
          refine j_iconst (v := 2) B dL_law_1532 (by decide) ?_
          refine j_iadd B dL_law_1533 ?_
          refine j_sld B hX hbl dL_law_1534 hF (fun i1534 hF => ?_)
          refine j_aload_n B dL_law_1535 rfl ?_
          refine j_iload_n B dL_law_1536 rfl ?_
          refine j_iconst (v := 3) B dL_law_1537 (by decide) ?_
          refine j_iadd B dL_law_1538 ?_
          refine j_sld B hX hbl dL_law_1539 hF (fun i1539 hF => ?_)
          obtain ⟨i1540, w1540, e1540, hF⟩ := bc hF
          refine j_rVX (st2 := [.int i1540]) B [.int i1529, .int i1534, .int i1539] [] cx_L_178 dL_law_1540 hl hR (ct_X0_write G e1540) (rmOk_mk rfl rfl (Nat.le_of_ble_eq_true rfl) (Nat.le_of_ble_eq_true rfl) (by show _ ≤ 601024; omega) (by show _ ≤ 7293034; omega)) rfl rfl rfl trivial (Nat.le_of_ble_eq_true rfl) ?_
          refine j_aload_n B dL_law_1543 rfl ?_
          refine j_aload_n B dL_law_1544 rfl ?_
          refine j_iload_n B dL_law_1545 rfl ?_
          refine j_iconst (v := 1) B dL_law_1546 (by decide) ?_
          refine j_iadd B dL_law_1547 ?_
          refine j_sld B hX hbl dL_law_1548 hF (fun i1548 hF => ?_)
          refine j_aload_n B dL_law_1549 rfl ?_
          refine j_iload_n B dL_law_1550 rfl ?_
          refine j_iconst (v := 2) B dL_law_1551 (by decide) ?_
          refine j_iadd B dL_law_1552 ?_
          refine j_sld B hX hbl dL_law_1553 hF (fun i1553 hF => ?_)
          refine j_aload_n B dL_law_1554 rfl ?_
          refine j_iload_n B dL_law_1555 rfl ?_
          refine j_iconst (v := 3) B dL_law_1556 (by decide) ?_
          refine j_iadd B dL_law_1557 ?_
          refine j_sld B hX hbl dL_law_1558 hF (fun i1558 hF => ?_)
          obtain ⟨i1559, w1559, e1559, hF⟩ := bc hF
          refine j_rV (st2 := [.int i1559, .int i1540]) B [.int i1548, .int i1553, .int i1558] [.int i1540] cv_L_181 dL_law_1559 hl hR (ct_X13_write G e1559) (rmOk_mk rfl rfl (Nat.le_of_ble_eq_true rfl) (Nat.le_of_ble_eq_true rfl) (by show _ ≤ 601024; omega) (by show _ ≤ 7293034; omega)) rfl rfl rfl ⟨rfl, trivial⟩ (Nat.le_of_ble_eq_true rfl) ?_
          refine j_icmp_eq (tgt := 1771) B dL_law_1562 (by decide) hF (fun h1562 hF => ?_) (fun h1562 hF => ?_)
          · refine j_widen (k' := 517 + (j + 1)) (n' := 6567 + 40 * (j + 1)) (by omega) (by omega) ?_
            exact jb1771 hj9 a1 a2 w1559 hF
          · refine j_iconst (v := 0) B dL_law_1565 (by decide) ?_
            exact j_lZw B (by decide) rfl dL_law_1566 hF (by omega) (by omega)
        rw [if_neg t33_40] at hF
        by_cases t33_41 : (i29 &&& 63) = 41
        · rw [if_pos t33_41] at hF
          refine j_tblIn (tgt := 1567) B 41 dL_law_33 t33_41 (by decide) rfl (by decide) ?_
          refine j_aload_n B dL_law_1567 rfl ?_
          refine j_aload_n B dL_law_1568 rfl ?_
          refine j_iload_n B dL_law_1569 rfl ?_
          refine j_iconst (v := 1) B dL_law_1570 (by decide) ?_
          refine j_iadd B dL_law_1571 ?_
          refine j_sld B hX hbl dL_law_1572 hF (fun i1572 hF => ?_)
          refine j_aload_n B dL_law_1573 rfl ?_
          refine j_iload_n B dL_law_1574 rfl ?_
          refine j_iconst (v := 2) B dL_law_1575 (by decide) ?_
          refine j_iadd B dL_law_1576 ?_
          refine j_sld B hX hbl dL_law_1577 hF (fun i1577 hF => ?_)
          refine j_aload_n B dL_law_1578 rfl ?_
          refine j_iload_n B dL_law_1579 rfl ?_
          refine j_iconst (v := 3) B dL_law_1580 (by decide) ?_
          refine j_iadd B dL_law_1581 ?_
          refine j_sld B hX hbl dL_law_1582 hF (fun i1582 hF => ?_)
          refine j_aload_n B dL_law_1583 rfl ?_
          refine j_iload_n B dL_law_1584 rfl ?_
          refine j_iconst (v := 4) B dL_law_1585 (by decide) ?_
          refine j_iadd B dL_law_1586 ?_
          refine j_sld B hX hbl dL_law_1587 hF (fun i1587 hF => ?_)
          refine j_aload_n B dL_law_1588 rfl ?_
          refine j_iload_n B dL_law_1589 rfl ?_
          refine j_iconst (v := 5) B dL_law_1590 (by decide) ?_
          refine j_iadd B dL_law_1591 ?_
          refine j_sld B hX hbl dL_law_1592 hF (fun i1592 hF => ?_)
          obtain ⟨i1593, w1593, e1593, hF⟩ := bc hF
          refine j_rVX (st2 := [.int i1593]) B [.int i1572, .int i1577, .int i1582, .int i1587, .int i1592] [] cx_L_182 dL_law_1593 hl hR (ct_X0_copy G e1593) (rmOk_mk rfl rfl (Nat.le_of_ble_eq_true rfl) (Nat.le_of_ble_eq_true rfl) (by show _ ≤ 601024; omega) (by show _ ≤ 7293034; omega)) rfl rfl rfl trivial (Nat.le_of_ble_eq_true rfl) ?_
          refine j_aload_n B dL_law_1596 rfl ?_
          refine j_aload_n B dL_law_1597 rfl ?_
          refine j_iload_n B dL_law_1598 rfl ?_
          refine j_iconst (v := 1) B dL_law_1599 (by decide) ?_
          refine j_iadd B dL_law_1600 ?_
          refine j_sld B hX hbl dL_law_1601 hF (fun i1601 hF => ?_)
          refine j_aload_n B dL_law_1602 rfl ?_
          refine j_iload_n B dL_law_1603 rfl ?_
          refine j_iconst (v := 2) B dL_law_1604 (by decide) ?_
          refine j_iadd B dL_law_1605 ?_
          refine j_sld B hX hbl dL_law_1606 hF (fun i1606 hF => ?_)
          refine j_aload_n B dL_law_1607 rfl ?_
          refine j_iload_n B dL_law_1608 rfl ?_
          refine j_iconst (v := 3) B dL_law_1609 (by decide) ?_
          refine j_iadd B dL_law_1610 ?_
          refine j_sld B hX hbl dL_law_1611 hF (fun i1611 hF => ?_)
          refine j_aload_n B dL_law_1612 rfl ?_
          refine j_iload_n B dL_law_1613 rfl ?_
          refine j_iconst (v := 4) B dL_law_1614 (by decide) ?_
          refine j_iadd B dL_law_1615 ?_
          refine j_sld B hX hbl dL_law_1616 hF (fun i1616 hF => ?_)
          refine j_aload_n B dL_law_1617 rfl ?_
          refine j_iload_n B dL_law_1618 rfl ?_
          refine j_iconst (v := 5) B dL_law_1619 (by decide) ?_
          refine j_iadd B dL_law_1620 ?_
          refine j_sld B hX hbl dL_law_1621 hF (fun i1621 hF => ?_)
          obtain ⟨i1622, w1622, e1622, hF⟩ := bc hF
          refine j_rV (st2 := [.int i1622, .int i1593]) B [.int i1601, .int i1606, .int i1611, .int i1616, .int i1621] [.int i1593] cv_L_186 dL_law_1622 hl hR (ct_X13_copy G e1622) (rmOk_mk rfl rfl (Nat.le_of_ble_eq_true rfl) (Nat.le_of_ble_eq_true rfl) (by show _ ≤ 601024; omega) (by show _ ≤ 7293034; omega)) rfl rfl rfl ⟨rfl, trivial⟩ (Nat.le_of_ble_eq_true rfl) ?_
          refine j_icmp_eq (tgt := 1771) B dL_law_1625 (by decide) hF (fun h1625 hF => ?_) (fun h1625 hF => ?_)
          · refine j_widen (k' := 517 + (j + 1)) (n' := 6567 + 40 * (j + 1)) (by omega) (by omega) ?_
            exact jb1771 hj9 a1 a2 w1622 hF
          · refine j_iconst (v := 0) B dL_law_1628 (by decide) ?_
            exact j_lZw B (by decide) rfl dL_law_1629 hF (by omega) (by omega)
        rw [if_neg t33_41] at hF
        by_cases t33_42 : (i29 &&& 63) = 42
        · rw [if_pos t33_42] at hF
          refine j_tblIn (tgt := 1630) B 42 dL_law_33 t33_42 (by decide) rfl (by decide) ?_
          refine j_aload_n B dL_law_1630 rfl ?_
          refine j_aload_n B dL_law_1631 rfl ?_
          refine j_iload_n B dL_law_1632 rfl ?_
          refine j_iconst (v := 1) B dL_law_1633 (by decide) ?_
          refine j_iadd B dL_law_1634 ?_
          refine j_sld B hX hbl dL_law_1635 hF (fun i1635 hF => ?_)
          obtain ⟨i1636, w1636, e1636, hF⟩ := bc hF
          refine j_rVX (st2 := [.int i1636]) B [.int i1635] [] cx_L_187 dL_law_1636 hl hR (ct_X0_load_2 G e1636) (rmOk_mk rfl rfl (Nat.le_of_ble_eq_true rfl) (Nat.le_of_ble_eq_true rfl) (by show _ ≤ 601024; omega) (by show _ ≤ 7293034; omega)) rfl rfl rfl trivial (Nat.le_of_ble_eq_true rfl) ?_
          refine j_aload_n B dL_law_1639 rfl ?_
          refine j_aload_n B dL_law_1640 rfl ?_
          refine j_iload_n B dL_law_1641 rfl ?_
          refine j_iconst (v := 1) B dL_law_1642 (by decide) ?_
          refine j_iadd B dL_law_1643 ?_
          refine j_sld B hX hbl dL_law_1644 hF (fun i1644 hF => ?_)
          obtain ⟨i1645, w1645, e1645, hF⟩ := bc hF
          refine j_rV (st2 := [.int i1645, .int i1636]) B [.int i1644] [.int i1636] cv_L_190 dL_law_1645 hl hR (ct_X13_load G e1645) (rmOk_mk rfl rfl (Nat.le_of_ble_eq_true rfl) (Nat.le_of_ble_eq_true rfl) (by show _ ≤ 601024; omega) (by show _ ≤ 7293034; omega)) rfl rfl rfl ⟨rfl, trivial⟩ (Nat.le_of_ble_eq_true rfl) ?_
          refine j_icmp_eq (tgt := 1771) B dL_law_1648 (by decide) hF (fun h1648 hF => ?_) (fun h1648 hF => ?_)
          · refine j_widen (k' := 517 + (j + 1)) (n' := 6567 + 40 * (j + 1)) (by omega) (by omega) ?_
            exact jb1771 hj9 a1 a2 w1645 hF
          · refine j_iconst (v := 0) B dL_law_1651 (by decide) ?_
            exact j_lZw B (by decide) rfl dL_law_1652 hF (by omega) (by omega)
        rw [if_neg t33_42] at hF
        by_cases t33_43 : (i29 &&& 63) = 43
        · rw [if_pos t33_43] at hF
          refine j_tblIn (tgt := 1653) B 43 dL_law_33 t33_43 (by decide) rfl (by decide) ?_
          refine j_aload_n B dL_law_1653 rfl ?_
          refine j_aload_n B dL_law_1654 rfl ?_
          refine j_iload_n B dL_law_1655 rfl ?_
          refine j_iconst (v := 1) B dL_law_1656 (by decide) ?_
          refine j_iadd B dL_law_1657 ?_
          refine j_sld B hX hbl dL_law_1658 hF (fun i1658 hF => ?_)
          refine j_aload_n B dL_law_1659 rfl ?_
          refine j_iload_n B dL_law_1660 rfl ?_
          refine j_iconst (v := 2) B dL_law_1661 (by decide) ?_
          refine j_iadd B dL_law_1662 ?_
          refine j_sld B hX hbl dL_law_1663 hF (fun i1663 hF => ?_)
          obtain ⟨i1664, w1664, e1664, hF⟩ := bc hF
          refine j_rVX (st2 := [.int i1664]) B [.int i1658, .int i1663] [] cx_L_191 dL_law_1664 hl hR (ct_X0_judge G e1664) (rmOk_mk rfl rfl (Nat.le_of_ble_eq_true rfl) (Nat.le_of_ble_eq_true rfl) (by show _ ≤ 601024; omega) (by show _ ≤ 7293034; omega)) rfl rfl rfl trivial (Nat.le_of_ble_eq_true rfl) ?_
          refine j_aload_n B dL_law_1667 rfl ?_
          refine j_aload_n B dL_law_1668 rfl ?_
          refine j_iload_n B dL_law_1669 rfl ?_
          refine j_iconst (v := 1) B dL_law_1670 (by decide) ?_
          refine j_iadd B dL_law_1671 ?_
          refine j_sld B hX hbl dL_law_1672 hF (fun i1672 hF => ?_)
          refine j_aload_n B dL_law_1673 rfl ?_
          refine j_iload_n B dL_law_1674 rfl ?_
          refine j_iconst (v := 2) B dL_law_1675 (by decide) ?_
          refine j_iadd B dL_law_1676 ?_
          refine j_sld B hX hbl dL_law_1677 hF (fun i1677 hF => ?_)
          obtain ⟨i1678, w1678, e1678, hF⟩ := bc hF
          refine j_rV (st2 := [.int i1678, .int i1664]) B [.int i1672, .int i1677] [.int i1664] cv_L_194 dL_law_1678 hl hR (ct_X13_judge G e1678) (rmOk_mk rfl rfl (Nat.le_of_ble_eq_true rfl) (Nat.le_of_ble_eq_true rfl) (by show _ ≤ 601024; omega) (by show _ ≤ 7293034; omega)) rfl rfl rfl ⟨rfl, trivial⟩ (Nat.le_of_ble_eq_true rfl) ?_
          refine j_icmp_eq (tgt := 1771) B dL_law_1681 (by decide) hF (fun h1681 hF => ?_) (fun h1681 hF => ?_)
          · refine j_widen (k' := 517 + (j + 1)) (n' := 6567 + 40 * (j + 1)) (by omega) (by omega) ?_
            exact jb1771 hj9 a1 a2 w1678 hF
          · refine j_iconst (v := 0) B dL_law_1684 (by decide) ?_
            exact j_lZw B (by decide) rfl dL_law_1685 hF (by omega) (by omega)
        rw [if_neg t33_43] at hF
        by_cases t33_44 : (i29 &&& 63) = 44
        · rw [if_pos t33_44] at hF
          refine j_tblIn (tgt := 1686) B 44 dL_law_33 t33_44 (by decide) rfl (by decide) ?_
          refine j_aload_n B dL_law_1686 rfl ?_
          obtain ⟨i1687, w1687, e1687, hF⟩ := bc hF
          refine j_rV (st2 := [.int i1687]) B [] [] cv_L_195 dL_law_1687 hl hR (ct_X0_image G e1687) (rmOk_mk rfl rfl (Nat.le_of_ble_eq_true rfl) (Nat.le_of_ble_eq_true rfl) (by show _ ≤ 601024; omega) (by show _ ≤ 7293034; omega)) rfl rfl rfl trivial (Nat.le_of_ble_eq_true rfl) ?_
          refine j_aload_n B dL_law_1690 rfl ?_
          obtain ⟨i1691, w1691, e1691, hF⟩ := bc hF
          refine j_rV (st2 := [.int i1691, .int i1687]) B [] [.int i1687] cv_L_198 dL_law_1691 hl hR (ct_X13_image G e1691) (rmOk_mk rfl rfl (Nat.le_of_ble_eq_true rfl) (Nat.le_of_ble_eq_true rfl) (by show _ ≤ 601024; omega) (by show _ ≤ 7293034; omega)) rfl rfl rfl ⟨rfl, trivial⟩ (Nat.le_of_ble_eq_true rfl) ?_
          refine j_icmp_eq (tgt := 1771) B dL_law_1694 (by decide) hF (fun h1694 hF => ?_) (fun h1694 hF => ?_)
          · refine j_widen (k' := 517 + (j + 1)) (n' := 6567 + 40 * (j + 1)) (by omega) (by omega) ?_
            exact jb1771 hj9 a1 a2 w1691 hF
          · refine j_iconst (v := 0) B dL_law_1697 (by decide) ?_
            exact j_lZw B (by decide) rfl dL_law_1698 hF (by omega) (by omega)
        rw [if_neg t33_44] at hF
        by_cases t33_45 : (i29 &&& 63) = 45
        · rw [if_pos t33_45] at hF
          refine j_tblIn (tgt := 1699) B 45 dL_law_33 t33_45 (by decide) rfl (by decide) ?_
          refine j_aload_n B dL_law_1699 rfl ?_
          obtain ⟨i1700, w1700, e1700, hF⟩ := bc hF
          refine j_rV (st2 := [.int i1700]) B [] [] cv_L_199 dL_law_1700 hl hR (ct_X0_undo G e1700) (rmOk_mk rfl rfl (Nat.le_of_ble_eq_true rfl) (Nat.le_of_ble_eq_true rfl) (by show _ ≤ 601024; omega) (by show _ ≤ 7293034; omega)) rfl rfl rfl trivial (Nat.le_of_ble_eq_true rfl) ?_
          refine j_aload_n B dL_law_1703 rfl ?_
          obtain ⟨i1704, w1704, e1704, hF⟩ := bc hF
          refine j_rV (st2 := [.int i1704, .int i1700]) B [] [.int i1700] cv_L_202 dL_law_1704 hl hR (ct_X13_undo G e1704) (rmOk_mk rfl rfl (Nat.le_of_ble_eq_true rfl) (Nat.le_of_ble_eq_true rfl) (by show _ ≤ 601024; omega) (by show _ ≤ 7293034; omega)) rfl rfl rfl ⟨rfl, trivial⟩ (Nat.le_of_ble_eq_true rfl) ?_
          refine j_icmp_eq (tgt := 1771) B dL_law_1707 (by decide) hF (fun h1707 hF => ?_) (fun h1707 hF => ?_)
          · refine j_widen (k' := 517 + (j + 1)) (n' := 6567 + 40 * (j + 1)) (by omega) (by omega) ?_
            exact jb1771 hj9 a1 a2 w1704 hF
          · refine j_iconst (v := 0) B dL_law_1710 (by decide) ?_
            exact j_lZw B (by decide) rfl dL_law_1711 hF (by omega) (by omega)
        rw [if_neg t33_45] at hF
        by_cases t33_46 : (i29 &&& 63) = 46
        · rw [if_pos t33_46] at hF
          refine j_tblIn (tgt := 1712) B 46 dL_law_33 t33_46 (by decide) rfl (by decide) ?_
          refine j_aload_n B dL_law_1712 rfl ?_
          obtain ⟨i1713, w1713, e1713, hF⟩ := bc hF
          refine j_rV (st2 := [.int i1713]) B [] [] cv_L_203 dL_law_1713 hl hR (ct_X0_tear G e1713) (rmOk_mk rfl rfl (Nat.le_of_ble_eq_true rfl) (Nat.le_of_ble_eq_true rfl) (by show _ ≤ 601024; omega) (by show _ ≤ 7293034; omega)) rfl rfl rfl trivial (Nat.le_of_ble_eq_true rfl) ?_
          refine j_aload_n B dL_law_1716 rfl ?_
          obtain ⟨i1717, w1717, e1717, hF⟩ := bc hF
          refine j_rV (st2 := [.int i1717, .int i1713]) B [] [.int i1713] cv_L_206 dL_law_1717 hl hR (ct_X13_tear G e1717) (rmOk_mk rfl rfl (Nat.le_of_ble_eq_true rfl) (Nat.le_of_ble_eq_true rfl) (by show _ ≤ 601024; omega) (by show _ ≤ 7293034; omega)) rfl rfl rfl ⟨rfl, trivial⟩ (Nat.le_of_ble_eq_true rfl) ?_
          refine j_icmp_eq (tgt := 1771) B dL_law_1720 (by decide) hF (fun h1720 hF => ?_) (fun h1720 hF => ?_)
          · refine j_widen (k' := 517 + (j + 1)) (n' := 6567 + 40 * (j + 1)) (by omega) (by omega) ?_
            exact jb1771 hj9 a1 a2 w1717 hF
          · refine j_iconst (v := 0) B dL_law_1723 (by decide) ?_
            exact j_lZw B (by decide) rfl dL_law_1724 hF (by omega) (by omega)
        rw [if_neg t33_46] at hF
        by_cases t33_47 : (i29 &&& 63) = 47
        · rw [if_pos t33_47] at hF
          refine j_tblIn (tgt := 1725) B 47 dL_law_33 t33_47 (by decide) rfl (by decide) ?_
          refine j_aload_n B dL_law_1725 rfl ?_
          refine j_aload_n B dL_law_1726 rfl ?_
          refine j_iload_n B dL_law_1727 rfl ?_
          refine j_iconst (v := 1) B dL_law_1728 (by decide) ?_
          refine j_iadd B dL_law_1729 ?_
          refine j_sld B hX hbl dL_law_1730 hF (fun i1730 hF => ?_)
          obtain ⟨i1731, w1731, e1731, hF⟩ := bc hF
          refine j_rV (st2 := [.int i1731]) B [.int i1730] [] cv_L_207 dL_law_1731 hl hR (ct_X0_count G e1731) (rmOk_mk rfl rfl (Nat.le_of_ble_eq_true rfl) (Nat.le_of_ble_eq_true rfl) (by show _ ≤ 601024; omega) (by show _ ≤ 7293034; omega)) rfl rfl rfl trivial (Nat.le_of_ble_eq_true rfl) ?_
          refine j_aload_n B dL_law_1734 rfl ?_
          refine j_aload_n B dL_law_1735 rfl ?_
          refine j_iload_n B dL_law_1736 rfl ?_
          refine j_iconst (v := 1) B dL_law_1737 (by decide) ?_
          refine j_iadd B dL_law_1738 ?_
          refine j_sld B hX hbl dL_law_1739 hF (fun i1739 hF => ?_)
          obtain ⟨i1740, w1740, e1740, hF⟩ := bc hF
          refine j_rV (st2 := [.int i1740, .int i1731]) B [.int i1739] [.int i1731] cv_L_210 dL_law_1740 hl hR (ct_X13_count G e1740) (rmOk_mk rfl rfl (Nat.le_of_ble_eq_true rfl) (Nat.le_of_ble_eq_true rfl) (by show _ ≤ 601024; omega) (by show _ ≤ 7293034; omega)) rfl rfl rfl ⟨rfl, trivial⟩ (Nat.le_of_ble_eq_true rfl) ?_
          refine j_icmp_eq (tgt := 1771) B dL_law_1743 (by decide) hF (fun h1743 hF => ?_) (fun h1743 hF => ?_)
          · refine j_widen (k' := 517 + (j + 1)) (n' := 6567 + 40 * (j + 1)) (by omega) (by omega) ?_
            exact jb1771 hj9 a1 a2 w1740 hF
          · refine j_iconst (v := 0) B dL_law_1746 (by decide) ?_
            exact j_lZw B (by decide) rfl dL_law_1747 hF (by omega) (by omega)
        rw [if_neg t33_47] at hF
        by_cases t33_48 : (i29 &&& 63) = 48
        · rw [if_pos t33_48] at hF
          refine j_tblIn (tgt := 1748) B 48 dL_law_33 t33_48 (by decide) rfl (by decide) ?_
          refine j_aload_n B dL_law_1748 rfl ?_
          refine j_aload_n B dL_law_1749 rfl ?_
          refine j_iload_n B dL_law_1750 rfl ?_
          refine j_iconst (v := 1) B dL_law_1751 (by decide) ?_
          refine j_iadd B dL_law_1752 ?_
          refine j_sld B hX hbl dL_law_1753 hF (fun i1753 hF => ?_)
          obtain ⟨i1754, w1754, e1754, hF⟩ := bc hF
          refine j_rV (st2 := [.int i1754]) B [.int i1753] [] cv_L_211 dL_law_1754 hl hR (ct_X0_status G e1754) (rmOk_mk rfl rfl (Nat.le_of_ble_eq_true rfl) (Nat.le_of_ble_eq_true rfl) (by show _ ≤ 601024; omega) (by show _ ≤ 7293034; omega)) rfl rfl rfl trivial (Nat.le_of_ble_eq_true rfl) ?_
          refine j_aload_n B dL_law_1757 rfl ?_
          refine j_aload_n B dL_law_1758 rfl ?_
          refine j_iload_n B dL_law_1759 rfl ?_
          refine j_iconst (v := 1) B dL_law_1760 (by decide) ?_
          refine j_iadd B dL_law_1761 ?_
          refine j_sld B hX hbl dL_law_1762 hF (fun i1762 hF => ?_)
          obtain ⟨i1763, w1763, e1763, hF⟩ := bc hF
          refine j_rV (st2 := [.int i1763, .int i1754]) B [.int i1762] [.int i1754] cv_L_214 dL_law_1763 hl hR (ct_X13_status G e1763) (rmOk_mk rfl rfl (Nat.le_of_ble_eq_true rfl) (Nat.le_of_ble_eq_true rfl) (by show _ ≤ 601024; omega) (by show _ ≤ 7293034; omega)) rfl rfl rfl ⟨rfl, trivial⟩ (Nat.le_of_ble_eq_true rfl) ?_
          refine j_icmp_eq (tgt := 1771) B dL_law_1766 (by decide) hF (fun h1766 hF => ?_) (fun h1766 hF => ?_)
          · refine j_widen (k' := 517 + (j + 1)) (n' := 6567 + 40 * (j + 1)) (by omega) (by omega) ?_
            exact jb1771 hj9 a1 a2 w1763 hF
          · refine j_iconst (v := 0) B dL_law_1769 (by decide) ?_
            exact j_lZw B (by decide) rfl dL_law_1770 hF (by omega) (by omega)
        rw [if_neg t33_48] at hF
        refine j_tblOut (tgt := 1771) B dL_law_33 (tbl_out 0 48 (fun z h1 h2 => ?_)) (by decide) ?_
        · rcases (show z = 0 ∨ z = 1 ∨ z = 2 ∨ z = 3 ∨ z = 4 ∨ z = 5 ∨ z = 6 ∨ z = 7 ∨ z = 8 ∨ z = 9 ∨ z = 10 ∨ z = 11 ∨ z = 12 ∨ z = 13 ∨ z = 14 ∨ z = 15 ∨ z = 16 ∨ z = 17 ∨ z = 18 ∨ z = 19 ∨ z = 20 ∨ z = 21 ∨ z = 22 ∨ z = 23 ∨ z = 24 ∨ z = 25 ∨ z = 26 ∨ z = 27 ∨ z = 28 ∨ z = 29 ∨ z = 30 ∨ z = 31 ∨ z = 32 ∨ z = 33 ∨ z = 34 ∨ z = 35 ∨ z = 36 ∨ z = 37 ∨ z = 38 ∨ z = 39 ∨ z = 40 ∨ z = 41 ∨ z = 42 ∨ z = 43 ∨ z = 44 ∨ z = 45 ∨ z = 46 ∨ z = 47 ∨ z = 48 by omega) with h | h | h | h | h | h | h | h | h | h | h | h | h | h | h | h | h | h | h | h | h | h | h | h | h | h | h | h | h | h | h | h | h | h | h | h | h | h | h | h | h | h | h | h | h | h | h | h | h
          · rw [h]; exact lv_neT t33_0 (by decide)
          · rw [h]; exact lv_neT t33_1 (by decide)
          · rw [h]; exact lv_neT t33_2 (by decide)
          · rw [h]; exact lv_neT t33_3 (by decide)
          · rw [h]; exact lv_neT t33_4 (by decide)
          · rw [h]; exact lv_neT t33_5 (by decide)
          · rw [h]; exact lv_neT t33_6 (by decide)
          · rw [h]; exact lv_neT t33_7 (by decide)
          · rw [h]; exact lv_neT t33_8 (by decide)
          · rw [h]; exact lv_neT t33_9 (by decide)
          · rw [h]; exact lv_neT t33_10 (by decide)
          · rw [h]; exact lv_neT t33_11 (by decide)
          · rw [h]; exact lv_neT t33_12 (by decide)
          · rw [h]; exact lv_neT t33_13 (by decide)
          · rw [h]; exact lv_neT t33_14 (by decide)
          · rw [h]; exact lv_neT t33_15 (by decide)
          · rw [h]; exact lv_neT t33_16 (by decide)
          · rw [h]; exact lv_neT t33_17 (by decide)
          · rw [h]; exact lv_neT t33_18 (by decide)
          · rw [h]; exact lv_neT t33_19 (by decide)
          · rw [h]; exact lv_neT t33_20 (by decide)
          · rw [h]; exact lv_neT t33_21 (by decide)
          · rw [h]; exact lv_neT t33_22 (by decide)
          · rw [h]; exact lv_neT t33_23 (by decide)
          · rw [h]; exact lv_neT t33_24 (by decide)
          · rw [h]; exact lv_neT t33_25 (by decide)
          · rw [h]; exact lv_neT t33_26 (by decide)
          · rw [h]; exact lv_neT t33_27 (by decide)
          · rw [h]; exact lv_neT t33_28 (by decide)
          · rw [h]; exact lv_neT t33_29 (by decide)
          · rw [h]; exact lv_neT t33_30 (by decide)
          · rw [h]; exact lv_neT t33_31 (by decide)
          · rw [h]; exact lv_neT t33_32 (by decide)
          · rw [h]; exact lv_neT t33_33 (by decide)
          · rw [h]; exact lv_neT t33_34 (by decide)
          · rw [h]; exact lv_neT t33_35 (by decide)
          · rw [h]; exact lv_neT t33_36 (by decide)
          · rw [h]; exact lv_neT t33_37 (by decide)
          · rw [h]; exact lv_neT t33_38 (by decide)
          · rw [h]; exact lv_neT t33_39 (by decide)
          · rw [h]; exact lv_neT t33_40 (by decide)
          · rw [h]; exact lv_neT t33_41 (by decide)
          · rw [h]; exact lv_neT t33_42 (by decide)
          · rw [h]; exact lv_neT t33_43 (by decide)
          · rw [h]; exact lv_neT t33_44 (by decide)
          · rw [h]; exact lv_neT t33_45 (by decide)
          · rw [h]; exact lv_neT t33_46 (by decide)
          · rw [h]; exact lv_neT t33_47 (by decide)
          · rw [h]; exact lv_neT t33_48 (by decide)
        refine j_widen (k' := 517 + (j + 1)) (n' := 6567 + 40 * (j + 1)) (by omega) (by omega) ?_
        exact jb1771 hj9 a1 a2 w hF
  obtain ⟨w0, e0, hF⟩ := bo hF
  refine j_new (N := 20) B nw_L_7 rfl dL_law_0 hR (by decide) (by decide) ?_
  rw [Option.some.inj e0]
  refine j_dup B dL_law_3 (cr _) ?_
  obtain ⟨w4, e4, hF⟩ := bo hF
  refine j_rI (st2 := [va_rf (some w.2)]) B [] [va_rf (some w.2)] ci_L_9 dL_law_4 hl hR (ct_X0_init G e4).2 rfl rfl rfl rfl ⟨cr _, trivial⟩ (Nat.le_of_ble_eq_true rfl) ?_
  refine j_astore_n (vs' := [some (va_rf (some g.2.1)), some (va_rf (some w.2)), none, none]) B dL_law_7 (by decide) rfl ?_
  obtain ⟨w8, e8, hF⟩ := bo hF
  refine j_new (N := 30) B nw_L_10 rfl dL_law_8 hR (by decide) (by decide) ?_
  rw [Option.some.inj e8]
  refine j_dup B dL_law_11 (cr _) ?_
  obtain ⟨w12, e12, hF⟩ := bo hF
  refine j_rI (st2 := [va_rf (some w4.2)]) B [] [va_rf (some w4.2)] ci_L_12 dL_law_12 hl hR (ct_X13_init G e12).2 rfl rfl rfl rfl ⟨cr _, trivial⟩ (Nat.le_of_ble_eq_true rfl) ?_
  refine j_astore_n (vs' := [some (va_rf (some g.2.1)), some (va_rf (some w.2)), some (va_rf (some w4.2)), none]) B dL_law_15 (by decide) rfl ?_
  refine j_iconst (v := 0) B dL_law_16 (by decide) ?_
  refine j_istore_n (vs' := [some (va_rf (some g.2.1)), some (va_rf (some w.2)), some (va_rf (some w4.2)), some (.int 0)]) B dL_law_17 (by decide) rfl ?_
  exact lp18 fu 0 (some w.2) (some w4.2) w12 (by omega) hF
