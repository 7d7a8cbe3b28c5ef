set_option maxRecDepth 100000
theorem sJ1_1 : aw_SI RJ1 1 yJ0_init cJ0_init 1 0 := ⟨q174, q172, q173, q120, rfl, by decide +kernel⟩
theorem pJ1_7 (nm : String) : aw_Pl RJ1 7 14 0 nm (.int) := ⟨RJ2, TJ2, 3, "java/util/AbstractList", tyJ2, rfl, in_J2, by decide, Or.inl q182, rfl, tyJ2_ok, nmJ2, Or.inl rfl, rfl⟩
theorem fJ10_1 : aw_Fl RJ10 1 15 3 := ⟨RJ10, TJ10, 4, "java/util/ArrayList$Itr", rfl, in_J10, by decide, Or.inl q641, rfl⟩
theorem pJ10_1 : aw_Pl RJ10 1 15 3 "<init>" (.object "java/util/ArrayList") := ⟨RJ10, TJ10, 4, "java/util/ArrayList$Itr", tyJ10, rfl, in_J10, by decide, Or.inl q641, rfl, tyJ10_ok, nmJ10, Or.inr ⟨rfl, rfl, rfl⟩, rfl⟩
theorem pJ10_13 (nm : String) : aw_Pl RJ10 13 15 1 nm (.int) := ⟨RJ10, TJ10, 4, "java/util/ArrayList$Itr", tyJ10, rfl, in_J10, by decide, Or.inl q639, rfl, tyJ10_ok, nmJ10, Or.inl rfl, rfl⟩
theorem fJ10_22 : aw_Fl RJ10 22 15 2 := ⟨RJ10, TJ10, 4, "java/util/ArrayList$Itr", rfl, in_J10, by decide, Or.inl q640, rfl⟩
theorem pJ10_22 (nm : String) : aw_Pl RJ10 22 15 2 nm (.int) := ⟨RJ10, TJ10, 4, "java/util/ArrayList$Itr", tyJ10, rfl, in_J10, by decide, Or.inl q640, rfl, tyJ10_ok, nmJ10, Or.inl rfl, rfl⟩
theorem fJ10_25 : aw_Fl RJ10 25 15 0 := ⟨RJ10, TJ10, 4, "java/util/ArrayList$Itr", rfl, in_J10, by decide, Or.inl q638, rfl⟩
theorem pJ10_25 (nm : String) : aw_Pl RJ10 25 15 0 nm (.int) := ⟨RJ10, TJ10, 4, "java/util/ArrayList$Itr", tyJ10, rfl, in_J10, by decide, Or.inl q638, rfl, tyJ10_ok, nmJ10, Or.inl rfl, rfl⟩
theorem fJ10_28 : aw_Fl RJ10 28 14 2 := ⟨RJ2, TJ2, 3, "java/util/ArrayList", rfl, in_J2, by decide, Or.inr ⟨"java/util/ArrayList", List.mem_of_getElem? (i := 0) rfl⟩, rfl⟩
theorem sJ10_31 : aw_SV RJ10 31 yJ10_checkForComodification cJ10_checkForComodification 1 none 0 15 := ⟨lw_V q670 q671 q672 q135 q673, by decide +kernel, TJ10, 4, rfl⟩
theorem fJ10_37 : aw_Fl RJ10 37 14 1 := ⟨RJ2, TJ2, 3, "java/util/ArrayList", rfl, in_J2, by decide, Or.inl q179, rfl⟩
theorem sJ11_194 : aw_SS RJ11 194 yJ12_max cJ12_max 2 (some .int) 2 := ⟨lw_S q740 q741 q138 q742, by decide +kernel⟩
theorem sJ11_201 : aw_SS RJ11 201 yJ11_hugeLength cJ11_hugeLength 3 (some .int) 2 := ⟨lw_S q744 q745 q137 q746, by decide +kernel⟩
theorem sJ13_300 : aw_SS RJ13 300 yJ13_copyOf_2 cJ13_copyOf_2 4 (some (.array (.object "java/lang/Object"))) 3 := ⟨lw_S q770 q771 q139 q772, by decide +kernel⟩
theorem sJ13_304 : aw_SS RJ13 304 yJ12_min cJ12_min 2 (some .int) 2 := ⟨lw_S q776 q777 q138 q778, by decide +kernel⟩
theorem sJ2_1 : aw_SI RJ2 1 yJ1_init cJ1_init 1 0 := ⟨q171, q169, q170, q121, rfl, by decide +kernel⟩
theorem fJ2_9 : aw_Fl RJ2 9 14 1 := ⟨RJ2, TJ2, 3, "java/util/ArrayList", rfl, in_J2, by decide, Or.inl q178, rfl⟩
theorem pJ2_9 (nm : String) : aw_Pl RJ2 9 14 1 nm (.array (.object "java/lang/Object")) := ⟨RJ2, TJ2, 3, "java/util/ArrayList", tyJ2, rfl, in_J2, by decide, Or.inl q178, rfl, tyJ2_ok, nmJ2, Or.inl rfl, rfl⟩
theorem fJ2_48 : aw_Fl RJ2 48 14 2 := ⟨RJ2, TJ2, 3, "java/util/ArrayList", rfl, in_J2, by decide, Or.inl q181, rfl⟩
theorem pJ2_48 (nm : String) : aw_Pl RJ2 48 14 2 nm (.int) := ⟨RJ2, TJ2, 3, "java/util/ArrayList", tyJ2, rfl, in_J2, by decide, Or.inl q181, rfl, tyJ2_ok, nmJ2, Or.inl rfl, rfl⟩
theorem sJ2_66 : aw_SS RJ2 66 yJ13_copyOf cJ13_copyOf 2 (some (.array (.object "java/lang/Object"))) 2 := ⟨lw_S q747 q748 q139 q749, by decide +kernel⟩
theorem sJ2_69 : aw_SV RJ2 69 yJ2_grow_2 cJ2_grow_2 4 (some (.array (.object "java/lang/Object"))) 1 14 := ⟨lw_V q733 q735 qs21 q122 q736, by decide +kernel, TJ2, 3, rfl⟩
theorem sJ2_73 : aw_SS RJ2 73 yJ11_newLength cJ11_newLength 4 (some .int) 3 := ⟨lw_S q737 q738 q137 q739, by decide +kernel⟩
theorem sJ2_79 : aw_SS RJ2 79 yJ12_max cJ12_max 2 (some .int) 2 := ⟨lw_S q782 q741 q138 q742, by decide +kernel⟩
theorem sJ2_118 : aw_SS RJ2 118 yJ5_checkIndex cJ5_checkIndex 2 (some .int) 2 := ⟨lw_S q368 q369 q128 q370, by decide +kernel⟩
theorem sJ2_123 : aw_SV RJ2 123 yJ2_elementData cJ2_elementData 2 (some (.object "java/lang/Object")) 1 14 := ⟨lw_V q374 q375 q376 q122 q377, by decide +kernel, TJ2, 3, rfl⟩
theorem sJ2_129 : aw_SV RJ2 129 yJ2_grow cJ2_grow 1 (some (.array (.object "java/lang/Object"))) 0 14 := ⟨lw_V q729 q731 qs20 q122 q732, by decide +kernel, TJ2, 3, rfl⟩
theorem sJ2_131 : aw_SV RJ2 131 yJ2_add_2 cJ2_add_2 4 none 3 14 := ⟨lw_V q725 q727 qs19 q122 q728, by decide +kernel, TJ2, 3, rfl⟩
theorem sJ2_144 : aw_SV RJ2 144 yJ2_fastRemove cJ2_fastRemove 4 none 2 14 := ⟨lw_V q965 q967 qs36 q122 q968, by decide +kernel, TJ2, 3, rfl⟩
theorem nJ2_267 : aw_Nl RJ2 267 15 4 [.int 0, .int 0, .int 0, .null] := ⟨RJ10, TJ10, tyJ10, rfl, in_J10, tyJ10_ok, q632, q633, q135, by decide +kernel⟩
theorem sJ2_269 : aw_SI RJ2 269 yJ10_init cJ10_init 2 1 := ⟨q636, q634, q635, q135, rfl, by decide +kernel⟩
theorem pJ3_7 (nm : String) : aw_Pl RJ3 7 3 0 nm (.object "java/lang/Throwable") := ⟨RX3, TX3, 8, "java/lang/Throwable", tyX3, rfl, in_X3, by decide, Or.inl q322, rfl, tyX3_ok, nmX3, Or.inl rfl, rfl⟩
theorem pJ3_17 (nm : String) : aw_Pl RJ3 17 3 1 nm (.array (.object "java/lang/StackTraceElement")) := ⟨RX3, TX3, 8, "java/lang/Throwable", tyX3, rfl, in_X3, by decide, Or.inl q323, rfl, tyX3_ok, nmX3, Or.inl rfl, rfl⟩
theorem pJ3_24 (nm : String) : aw_Pl RJ3 24 3 2 nm (.object "java/util/List") := ⟨RX3, TX3, 8, "java/lang/Throwable", tyX3, rfl, in_X3, by decide, Or.inl q324, rfl, tyX3_ok, nmX3, Or.inl rfl, rfl⟩
theorem sJ4_1 : aw_SI RJ4 1 yJ3_init cJ3_init 1 0 := ⟨q295, q316, q294, q124, rfl, by decide +kernel⟩
theorem sJ5_105 : aw_SS RJ5 105 yJ6_checkIndex cJ6_checkIndex 3 (some .int) 3 := ⟨lw_S q371 q372 q129 q373, by decide +kernel⟩
theorem sJ7_495 : aw_SS RJ7 495 yJ8_charAt cJ8_charAt 2 (some .char) 2 := ⟨lw_S q564 q565 q133 q566, by decide +kernel⟩
theorem sJ7_498 : aw_SS RJ7 498 yJ9_charAt cJ9_charAt 2 (some .char) 2 := ⟨lw_S q573 q574 q134 q575, by decide +kernel⟩
theorem sJ7_1059 : aw_SS RJ7 1059 yJ6_checkIndex cJ6_checkIndex 3 (some .int) 3 := ⟨lw_S q572 q372 q129 q373, by decide +kernel⟩
theorem sJ8_9 : aw_SS RJ8 9 yJ7_checkIndex cJ7_checkIndex 2 none 2 := ⟨lw_S q567 q568 q132 q569, by decide +kernel⟩
theorem sJ9_48 : aw_SS RJ9 48 yJ9_length cJ9_length 1 (some .int) 1 := ⟨lw_S q579 q580 q134 q581, by decide +kernel⟩
theorem sJ9_67 : aw_SS RJ9 67 yJ9_checkIndex cJ9_checkIndex 2 none 2 := ⟨lw_S q576 q577 q134 q578, by decide +kernel⟩
theorem sJ9_71 : aw_SS RJ9 71 yJ9_getChar cJ9_getChar 2 (some .char) 2 := ⟨lw_S q583 q584 q134 q585, by decide +kernel⟩
theorem sJ9_414 : aw_SS RJ9 414 yJ7_checkIndex cJ7_checkIndex 2 none 2 := ⟨lw_S q582 q568 q132 q569, by decide +kernel⟩
theorem sX0_1 : aw_SS RX0 1 yJ12_min cJ12_min 2 (some .int) 2 := ⟨lw_S q951 q777 q138 q778, by decide +kernel⟩
theorem sX0_7 : aw_SS RX0 7 yJ12_max cJ12_max 2 (some .int) 2 := ⟨lw_S q952 q741 q138 q742, by decide +kernel⟩
theorem nX0_16 : aw_Nl RX0 16 1 10 [.null, .null, .null, .int 0, .int 0, .int 0, .int 0, .int 0, .int 0, .null] := ⟨RX1, TX1, tyX1, rfl, in_X1, tyX1_ok, q158, q159, q119, by decide +kernel⟩
theorem sX0_18 : aw_SIN RX0 18 yX1_init cX1_init 1 0 "SoManyStairs" := ⟨q162, List.mem_of_getElem? (i := 0) rfl, q161, q119, rfl, by decide +kernel⟩
theorem fX0_19 : aw_Fl RX0 19 0 0 := ⟨RX0, TX0, 20, "SoManyStairs", rfl, in_X0, by decide, Or.inl q384, rfl⟩
theorem pX0_19 (nm : String) : aw_Pl RX0 19 0 0 nm (.object "SoManyStairs$House") := ⟨RX0, TX0, 20, "SoManyStairs", tyX0, rfl, in_X0, by decide, Or.inl q384, rfl, tyX0_ok, nmX0, Or.inl rfl, rfl⟩
theorem nX0_25 : aw_Nl RX0 25 2 7 [.null, .null, .null, .int 0, .int 0, .int 0, .int 0] := ⟨RX2, TX2, tyX2, rfl, in_X2, tyX2_ok, q236, q237, q123, by decide +kernel⟩
theorem sX0_27 : aw_SIN RX0 27 yX2_init cX2_init 1 0 "SoManyStairs" := ⟨q240, List.mem_of_getElem? (i := 1) rfl, q239, q123, rfl, by decide +kernel⟩
theorem fX0_28 : aw_Fl RX0 28 0 1 := ⟨RX0, TX0, 20, "SoManyStairs", rfl, in_X0, by decide, Or.inl q385, rfl⟩
theorem pX0_28 : aw_Pl RX0 28 0 1 "<init>" (.object "SoManyStairs$State") := ⟨RX0, TX0, 20, "SoManyStairs", tyX0, rfl, in_X0, by decide, Or.inl q385, rfl, tyX0_ok, nmX0, Or.inr ⟨rfl, rfl, rfl⟩, rfl⟩
theorem fX0_32 : aw_Fl RX0 32 0 2 := ⟨RX0, TX0, 20, "SoManyStairs", rfl, in_X0, by decide, Or.inl q386, rfl⟩
theorem pX0_32 : aw_Pl RX0 32 0 2 "<init>" (.object "SoManyStairs$State") := ⟨RX0, TX0, 20, "SoManyStairs", tyX0, rfl, in_X0, by decide, Or.inl q386, rfl, tyX0_ok, nmX0, Or.inr ⟨rfl, rfl, rfl⟩, rfl⟩
theorem fX0_35 : aw_Fl RX0 35 0 3 := ⟨RX0, TX0, 20, "SoManyStairs", rfl, in_X0, by decide, Or.inl q387, rfl⟩
theorem pX0_35 : aw_Pl RX0 35 0 3 "<init>" (.array .byte) := ⟨RX0, TX0, 20, "SoManyStairs", tyX0, rfl, in_X0, by decide, Or.inl q387, rfl, tyX0_ok, nmX0, Or.inr ⟨rfl, rfl, rfl⟩, rfl⟩
theorem nX0_39 : aw_Nl RX0 39 3 8 [.null, .null, .null, .null, .null, .int 0, .int 0, .int 0] := ⟨RX3, TX3, tyX3, rfl, in_X3, tyX3_ok, q273, q274, q126, by decide +kernel⟩
theorem sX0_41 : aw_SIN RX0 41 yX3_init cX3_init 1 0 "SoManyStairs" := ⟨q312, List.mem_of_getElem? (i := 2) rfl, q311, q126, rfl, by decide +kernel⟩
theorem fX0_42 : aw_Fl RX0 42 0 4 := ⟨RX0, TX0, 20, "SoManyStairs", rfl, in_X0, by decide, Or.inl q388, rfl⟩
theorem pX0_42 : aw_Pl RX0 42 0 4 "<init>" (.object "SoManyStairs$Wrong") := ⟨RX0, TX0, 20, "SoManyStairs", tyX0, rfl, in_X0, by decide, Or.inl q388, rfl, tyX0_ok, nmX0, Or.inr ⟨rfl, rfl, rfl⟩, rfl⟩
theorem fX0_46 : aw_Fl RX0 46 0 8 := ⟨RX0, TX0, 20, "SoManyStairs", rfl, in_X0, by decide, Or.inl q393, rfl⟩
theorem pX0_46 (nm : String) : aw_Pl RX0 46 0 8 nm (.int) := ⟨RX0, TX0, 20, "SoManyStairs", tyX0, rfl, in_X0, by decide, Or.inl q393, rfl, tyX0_ok, nmX0, Or.inl rfl, rfl⟩
theorem nX0_50 : aw_Nl RX0 50 14 3 [.int 0, .null, .int 0] := ⟨RJ2, TJ2, tyJ2, rfl, in_J2, tyJ2_ok, q338, q165, q122, by decide +kernel⟩
theorem sX0_52 : aw_SI RX0 52 yJ2_init cJ2_init 1 0 := ⟨q168, q339, q167, q122, rfl, by decide +kernel⟩
theorem fX0_53 : aw_Fl RX0 53 0 9 := ⟨RX0, TX0, 20, "SoManyStairs", rfl, in_X0, by decide, Or.inl q394, rfl⟩
theorem pX0_53 : aw_Pl RX0 53 0 9 "<init>" (.object "java/util/ArrayList") := ⟨RX0, TX0, 20, "SoManyStairs", tyX0, rfl, in_X0, by decide, Or.inl q394, rfl, tyX0_ok, nmX0, Or.inr ⟨rfl, rfl, rfl⟩, rfl⟩
theorem fX0_57 : aw_Fl RX0 57 0 10 := ⟨RX0, TX0, 20, "SoManyStairs", rfl, in_X0, by decide, Or.inl q395, rfl⟩
theorem pX0_57 : aw_Pl RX0 57 0 10 "<init>" (.object "java/util/ArrayList") := ⟨RX0, TX0, 20, "SoManyStairs", tyX0, rfl, in_X0, by decide, Or.inl q395, rfl, tyX0_ok, nmX0, Or.inr ⟨rfl, rfl, rfl⟩, rfl⟩
theorem fX0_60 : aw_Fl RX0 60 0 11 := ⟨RX0, TX0, 20, "SoManyStairs", rfl, in_X0, by decide, Or.inl q396, rfl⟩
theorem pX0_60 : aw_Pl RX0 60 0 11 "<init>" (.array .int) := ⟨RX0, TX0, 20, "SoManyStairs", tyX0, rfl, in_X0, by decide, Or.inl q396, rfl, tyX0_ok, nmX0, Or.inr ⟨rfl, rfl, rfl⟩, rfl⟩
theorem fX0_64 : aw_Fl RX0 64 0 12 := ⟨RX0, TX0, 20, "SoManyStairs", rfl, in_X0, by decide, Or.inl q397, rfl⟩
theorem pX0_64 : aw_Pl RX0 64 0 12 "<init>" (.array .int) := ⟨RX0, TX0, 20, "SoManyStairs", tyX0, rfl, in_X0, by decide, Or.inl q397, rfl, tyX0_ok, nmX0, Or.inr ⟨rfl, rfl, rfl⟩, rfl⟩
theorem fX0_67 : aw_Fl RX0 67 0 15 := ⟨RX0, TX0, 20, "SoManyStairs", rfl, in_X0, by decide, Or.inl q400, rfl⟩
theorem pX0_67 : aw_Pl RX0 67 0 15 "<init>" (.array .int) := ⟨RX0, TX0, 20, "SoManyStairs", tyX0, rfl, in_X0, by decide, Or.inl q400, rfl, tyX0_ok, nmX0, Or.inr ⟨rfl, rfl, rfl⟩, rfl⟩
theorem fX0_70 : aw_Fl RX0 70 0 16 := ⟨RX0, TX0, 20, "SoManyStairs", rfl, in_X0, by decide, Or.inl q401, rfl⟩
theorem pX0_70 : aw_Pl RX0 70 0 16 "<init>" (.array .int) := ⟨RX0, TX0, 20, "SoManyStairs", tyX0, rfl, in_X0, by decide, Or.inl q401, rfl, tyX0_ok, nmX0, Or.inr ⟨rfl, rfl, rfl⟩, rfl⟩
theorem fX0_73 : aw_Fl RX0 73 0 18 := ⟨RX0, TX0, 20, "SoManyStairs", rfl, in_X0, by decide, Or.inl q403, rfl⟩
theorem pX0_73 : aw_Pl RX0 73 0 18 "<init>" (.object "java/util/ArrayList") := ⟨RX0, TX0, 20, "SoManyStairs", tyX0, rfl, in_X0, by decide, Or.inl q403, rfl, tyX0_ok, nmX0, Or.inr ⟨rfl, rfl, rfl⟩, rfl⟩
theorem nX0_76 : aw_Nl RX0 76 4 1 [.null] := ⟨RX4, TX4, tyX4, rfl, in_X4, tyX4_ok, q340, q342, q127, by decide +kernel⟩
theorem sX0_78 : aw_SI RX0 78 yX4_init cX4_init 2 1 := ⟨q345, q343, q344, q127, rfl, by decide +kernel⟩
theorem fX0_81 : aw_Fl RX0 81 0 19 := ⟨RX0, TX0, 20, "SoManyStairs", rfl, in_X0, by decide, Or.inl q404, rfl⟩
theorem pX0_81 : aw_Pl RX0 81 0 19 "<init>" (.array (.object "SoManyStairs$Kept")) := ⟨RX0, TX0, 20, "SoManyStairs", tyX0, rfl, in_X0, by decide, Or.inl q404, rfl, tyX0_ok, nmX0, Or.inr ⟨rfl, rfl, rfl⟩, rfl⟩
theorem sX0_85 : aw_SV RX0 85 yX0_start cX0_start 2 none 0 0 := ⟨lw_V q352 q354 qs1 q118 q355, by decide +kernel, TX0, 20, rfl⟩
theorem fX0_88 : aw_Fl RX0 88 2 0 := ⟨RX2, TX2, 7, "SoManyStairs$State", rfl, in_X2, by decide, Or.inr ⟨"SoManyStairs", List.mem_of_getElem? (i := 6) rfl⟩, rfl⟩
theorem sX0_91 : aw_SV RX0 91 yX0_many cX0_many 1 (some .int) 0 0 := ⟨lw_V q356 q358 qs2 q118 q359, by decide +kernel, TX0, 20, rfl⟩
theorem fX0_95 : aw_Fl RX0 95 1 0 := ⟨RX1, TX1, 10, "SoManyStairs$House", rfl, in_X1, by decide, Or.inr ⟨"SoManyStairs", List.mem_of_getElem? (i := 1) rfl⟩, rfl⟩
theorem sX0_98 : aw_SV RX0 98 yJ2_get cJ2_get 2 (some (.object "java/lang/Object")) 1 14 := ⟨lw_V q364 q365 q366 q122 q367, by decide +kernel, TJ2, 3, rfl⟩
theorem fX0_104 : aw_Fl RX0 104 7 2 := ⟨RX7, TX7, 6, "SoManyStairs$Tenant", rfl, in_X7, by decide, Or.inr ⟨"SoManyStairs", List.mem_of_getElem? (i := 17) rfl⟩, rfl⟩
theorem fX0_107 : aw_Fl RX0 107 2 1 := ⟨RX2, TX2, 7, "SoManyStairs$State", rfl, in_X2, by decide, Or.inr ⟨"SoManyStairs", List.mem_of_getElem? (i := 7) rfl⟩, rfl⟩
theorem fX0_110 : aw_Fl RX0 110 2 2 := ⟨RX2, TX2, 7, "SoManyStairs$State", rfl, in_X2, by decide, Or.inr ⟨"SoManyStairs", List.mem_of_getElem? (i := 8) rfl⟩, rfl⟩
theorem fX0_113 : aw_Fl RX0 113 2 3 := ⟨RX2, TX2, 7, "SoManyStairs$State", rfl, in_X2, by decide, Or.inr ⟨"SoManyStairs", List.mem_of_getElem? (i := 9) rfl⟩, rfl⟩
theorem pX0_113 (nm : String) : aw_Pl RX0 113 2 3 nm (.int) := ⟨RX2, TX2, 7, "SoManyStairs$State", tyX2, rfl, in_X2, by decide, Or.inr ⟨rfl, "SoManyStairs", List.mem_of_getElem? (i := 9) rfl⟩, rfl, tyX2_ok, nmX2, Or.inl rfl, rfl⟩
theorem fX0_116 : aw_Fl RX0 116 1 7 := ⟨RX1, TX1, 10, "SoManyStairs$House", rfl, in_X1, by decide, Or.inr ⟨"SoManyStairs", List.mem_of_getElem? (i := 4) rfl⟩, rfl⟩
theorem fX0_119 : aw_Fl RX0 119 2 4 := ⟨RX2, TX2, 7, "SoManyStairs$State", rfl, in_X2, by decide, Or.inr ⟨"SoManyStairs", List.mem_of_getElem? (i := 10) rfl⟩, rfl⟩
theorem pX0_119 (nm : String) : aw_Pl RX0 119 2 4 nm (.int) := ⟨RX2, TX2, 7, "SoManyStairs$State", tyX2, rfl, in_X2, by decide, Or.inr ⟨rfl, "SoManyStairs", List.mem_of_getElem? (i := 10) rfl⟩, rfl, tyX2_ok, nmX2, Or.inl rfl, rfl⟩
theorem fX0_120 : aw_Fl RX0 120 2 5 := ⟨RX2, TX2, 7, "SoManyStairs$State", rfl, in_X2, by decide, Or.inr ⟨"SoManyStairs", List.mem_of_getElem? (i := 11) rfl⟩, rfl⟩
theorem pX0_120 (nm : String) : aw_Pl RX0 120 2 5 nm (.int) := ⟨RX2, TX2, 7, "SoManyStairs$State", tyX2, rfl, in_X2, by decide, Or.inr ⟨rfl, "SoManyStairs", List.mem_of_getElem? (i := 11) rfl⟩, rfl, tyX2_ok, nmX2, Or.inl rfl, rfl⟩
theorem fX0_123 : aw_Fl RX0 123 1 8 := ⟨RX1, TX1, 10, "SoManyStairs$House", rfl, in_X1, by decide, Or.inr ⟨"SoManyStairs", List.mem_of_getElem? (i := 5) rfl⟩, rfl⟩
theorem fX0_126 : aw_Fl RX0 126 2 6 := ⟨RX2, TX2, 7, "SoManyStairs$State", rfl, in_X2, by decide, Or.inr ⟨"SoManyStairs", List.mem_of_getElem? (i := 12) rfl⟩, rfl⟩
theorem pX0_126 (nm : String) : aw_Pl RX0 126 2 6 nm (.int) := ⟨RX2, TX2, 7, "SoManyStairs$State", tyX2, rfl, in_X2, by decide, Or.inr ⟨rfl, "SoManyStairs", List.mem_of_getElem? (i := 12) rfl⟩, rfl, tyX2_ok, nmX2, Or.inl rfl, rfl⟩
theorem sX0_129 : aw_SV RX0 129 yJ2_clear cJ2_clear 4 none 0 14 := ⟨lw_V q379 q380 q381 q122 q382, by decide +kernel, TJ2, 3, rfl⟩
theorem fX0_132 : aw_Fl RX0 132 0 13 := ⟨RX0, TX0, 20, "SoManyStairs", rfl, in_X0, by decide, Or.inl q398, rfl⟩
theorem pX0_132 (nm : String) : aw_Pl RX0 132 0 13 nm (.int) := ⟨RX0, TX0, 20, "SoManyStairs", tyX0, rfl, in_X0, by decide, Or.inl q398, rfl, tyX0_ok, nmX0, Or.inl rfl, rfl⟩
theorem fX0_135 : aw_Fl RX0 135 4 0 := ⟨RX4, TX4, 1, "SoManyStairs$Kept", rfl, in_X4, by decide, Or.inr ⟨"SoManyStairs", List.mem_of_getElem? (i := 15) rfl⟩, rfl⟩
theorem pX0_135 (nm : String) : aw_Pl RX0 135 4 0 nm (.object "SoManyStairs$State") := ⟨RX4, TX4, 1, "SoManyStairs$Kept", tyX4, rfl, in_X4, by decide, Or.inr ⟨rfl, "SoManyStairs", List.mem_of_getElem? (i := 15) rfl⟩, rfl, tyX4_ok, nmX4, Or.inl rfl, rfl⟩
theorem sX0_138 : aw_SV RX0 138 yX2_of cX2_of 2 none 1 2 := ⟨lw_V q973 q974 q975 q123 q976, by decide +kernel, TX2, 7, rfl⟩
theorem sX0_141 : aw_SV RX0 141 yJ2_size cJ2_size 1 (some .int) 0 14 := ⟨lw_V q360 q361 q362 q122 q363, by decide +kernel, TJ2, 3, rfl⟩
theorem sX0_144 : aw_SV RX0 144 yJ2_remove cJ2_remove 4 (some (.object "java/lang/Object")) 1 14 := ⟨lw_V q961 q962 q963 q122 q964, by decide +kernel, TJ2, 3, rfl⟩
theorem sX0_147 : aw_SS RX0 147 yX0_copy cX0_copy 2 (some (.object "SoManyStairs$State")) 1 := ⟨lw_S q970 q971 q118 q972, by decide +kernel⟩
theorem sX0_151 : aw_SV RX0 151 yJ2_add cJ2_add 2 (some .boolean) 1 14 := ⟨lw_V q978 q722 q723 q122 q724, by decide +kernel, TJ2, 3, rfl⟩
theorem sX0_155 : aw_SS RX0 155 yX0_isIn cX0_isIn 3 (some .boolean) 3 := ⟨lw_S q886 q887 q118 q888, by decide +kernel⟩
theorem fX0_159 : aw_Fl RX0 159 0 5 := ⟨RX0, TX0, 20, "SoManyStairs", rfl, in_X0, by decide, Or.inl q389, rfl⟩
theorem pX0_159 (nm : String) : aw_Pl RX0 159 0 5 nm (.int) := ⟨RX0, TX0, 20, "SoManyStairs", tyX0, rfl, in_X0, by decide, Or.inl q389, rfl, tyX0_ok, nmX0, Or.inl rfl, rfl⟩
theorem sX0_162 : aw_SV RX0 162 yX0_bytes cX0_bytes 3 none 1 0 := ⟨lw_V q450 q452 qs3 q118 q453, by decide +kernel, TX0, 20, rfl⟩
theorem fX0_166 : aw_Fl RX0 166 0 7 := ⟨RX0, TX0, 20, "SoManyStairs", rfl, in_X0, by decide, Or.inl q392, rfl⟩
theorem pX0_166 (nm : String) : aw_Pl RX0 166 0 7 nm (.int) := ⟨RX0, TX0, 20, "SoManyStairs", tyX0, rfl, in_X0, by decide, Or.inl q392, rfl, tyX0_ok, nmX0, Or.inl rfl, rfl⟩
theorem nX0_169 : aw_Nl RX0 169 6 11 [.null, .int 0, .null, .null, .int 0, .int 0, .int 0, .int 0, .long 0, .int 0, .int 0] := ⟨RX6, TX6, tyX6, rfl, in_X6, tyX6_ok, q462, q463, q131, by decide +kernel⟩
theorem sX0_171 : aw_SI RX0 171 yX6_init cX6_init 4 3 := ⟨q466, q464, q465, q131, rfl, by decide +kernel⟩
theorem sX0_174 : aw_SV RX0 174 yX6_read cX6_read 1 (some (.object "SoManyStairs$House")) 0 6 := ⟨lw_V q504 q505 q506 q131 q507, by decide +kernel, TX6, 11, rfl⟩
theorem fX0_178 : aw_Fl RX0 178 3 6 := ⟨RX3, TX3, 8, "SoManyStairs$Wrong", rfl, in_X3, by decide, Or.inr ⟨"SoManyStairs", List.mem_of_getElem? (i := 13) rfl⟩, rfl⟩
theorem fX0_181 : aw_Fl RX0 181 3 7 := ⟨RX3, TX3, 8, "SoManyStairs$Wrong", rfl, in_X3, by decide, Or.inr ⟨"SoManyStairs", List.mem_of_getElem? (i := 14) rfl⟩, rfl⟩
theorem sX0_184 : aw_SV RX0 184 yX2_lack cX2_lack 4 (some .int) 3 2 := ⟨lw_V q893 q894 q895 q123 q896, by decide +kernel, TX2, 7, rfl⟩
theorem sX0_188 : aw_SV RX0 188 yX0_isTenant cX0_isTenant 2 (some .boolean) 1 0 := ⟨lw_V q882 q884 qs31 q118 q885, by decide +kernel, TX0, 20, rfl⟩
theorem fX0_192 : aw_Fl RX0 192 7 1 := ⟨RX7, TX7, 6, "SoManyStairs$Tenant", rfl, in_X7, by decide, Or.inr ⟨"SoManyStairs", List.mem_of_getElem? (i := 16) rfl⟩, rfl⟩
theorem fX0_195 : aw_Fl RX0 195 7 3 := ⟨RX7, TX7, 6, "SoManyStairs$Tenant", rfl, in_X7, by decide, Or.inr ⟨"SoManyStairs", List.mem_of_getElem? (i := 18) rfl⟩, rfl⟩
theorem fX0_198 : aw_Fl RX0 198 7 4 := ⟨RX7, TX7, 6, "SoManyStairs$Tenant", rfl, in_X7, by decide, Or.inr ⟨"SoManyStairs", List.mem_of_getElem? (i := 19) rfl⟩, rfl⟩
theorem fX0_201 : aw_Fl RX0 201 7 5 := ⟨RX7, TX7, 6, "SoManyStairs$Tenant", rfl, in_X7, by decide, Or.inr ⟨"SoManyStairs", List.mem_of_getElem? (i := 20) rfl⟩, rfl⟩
theorem sX0_204 : aw_SV RX0 204 yX0_lackOf cX0_lackOf 2 (some .int) 1 0 := ⟨lw_V q889 q891 qs32 q118 q892, by decide +kernel, TX0, 20, rfl⟩
theorem fX0_208 : aw_Fl RX0 208 1 6 := ⟨RX1, TX1, 10, "SoManyStairs$House", rfl, in_X1, by decide, Or.inr ⟨"SoManyStairs", List.mem_of_getElem? (i := 3) rfl⟩, rfl⟩
theorem sX0_211 : aw_SV RX0 211 yX1_breath cX1_breath 2 (some .int) 1 1 := ⟨lw_V q908 q909 q910 q119 q911, by decide +kernel, TX1, 10, rfl⟩
theorem sX0_213 : aw_SV RX0 213 yX0_canClimb cX0_canClimb 5 (some .boolean) 4 0 := ⟨lw_V q904 q906 qs33 q118 q907, by decide +kernel, TX0, 20, rfl⟩
theorem sX0_217 : aw_SV RX0 217 yX1_heavyOf cX1_heavyOf 2 (some .int) 1 1 := ⟨lw_V q918 q913 q914 q119 q915, by decide +kernel, TX1, 10, rfl⟩
theorem sX0_220 : aw_SV RX0 220 yX1_counts cX1_counts 6 (some .int) 5 1 := ⟨lw_V q919 q920 q921 q119 q922, by decide +kernel, TX1, 10, rfl⟩
theorem sX0_224 : aw_SV RX0 224 yX0_keepAct cX0_keepAct 1 none 0 0 := ⟨lw_V q957 q959 qs35 q118 q960, by decide +kernel, TX0, 20, rfl⟩
theorem sX0_227 : aw_SV RX0 227 yX2_goOn cX2_goOn 3 none 1 2 := ⟨lw_V q987 q988 q989 q123 q990, by decide +kernel, TX2, 7, rfl⟩
theorem sX0_231 : aw_SV RX0 231 yJ2_isEmpty cJ2_isEmpty 1 (some .boolean) 0 14 := ⟨lw_V q1015 q1016 q1017 q122 q1018, by decide +kernel, TJ2, 3, rfl⟩
theorem sX0_235 : aw_SV RX0 235 yX0_turned cX0_turned 3 (some (.object "SoManyStairs$Kept")) 1 0 := ⟨lw_V q1019 q1021 qs38 q118 q1022, by decide +kernel, TX0, 20, rfl⟩
theorem fX0_239 : aw_Fl RX0 239 0 14 := ⟨RX0, TX0, 20, "SoManyStairs", rfl, in_X0, by decide, Or.inl q399, rfl⟩
theorem pX0_239 (nm : String) : aw_Pl RX0 239 0 14 nm (.int) := ⟨RX0, TX0, 20, "SoManyStairs", tyX0, rfl, in_X0, by decide, Or.inl q399, rfl, tyX0_ok, nmX0, Or.inl rfl, rfl⟩
theorem sX0_248 : aw_SV RX0 248 yX0_goClimb cX0_goClimb 8 none 6 0 := ⟨lw_V q1035 q1037 qs39 q118 q1038, by decide +kernel, TX0, 20, rfl⟩
theorem sX0_252 : aw_SV RX0 252 yX0_carries cX0_carries 3 (some .int) 2 0 := ⟨lw_V q1063 q1045 q1046 q118 q1047, by decide +kernel, TX0, 20, rfl⟩
theorem sX0_255 : aw_SV RX0 255 yX0_caredFrom cX0_caredFrom 3 (some .int) 2 0 := ⟨lw_V q1052 q1054 qs40 q118 q1055, by decide +kernel, TX0, 20, rfl⟩
theorem sX0_258 : aw_SS RX0 258 yX0_has cX0_has 2 (some .boolean) 2 := ⟨lw_S q1056 q1057 q118 q1058, by decide +kernel⟩
theorem sX0_262 : aw_SV RX0 262 yX0_canCare cX0_canCare 3 (some .boolean) 2 0 := ⟨lw_V q1059 q1061 qs41 q118 q1062, by decide +kernel, TX0, 20, rfl⟩
theorem sX0_265 : aw_SV RX0 265 yX0_enough cX0_enough 3 (some .int) 1 0 := ⟨lw_V q1076 q1078 qs44 q118 q1079, by decide +kernel, TX0, 20, rfl⟩
theorem sX0_268 : aw_SV RX0 268 yX0_climbsFor cX0_climbsFor 4 (some .int) 2 0 := ⟨lw_V q1072 q1074 qs43 q118 q1075, by decide +kernel, TX0, 20, rfl⟩
theorem sX0_271 : aw_SV RX0 271 yX0_layProxy cX0_layProxy 7 (some .int) 0 0 := ⟨lw_V q1068 q1070 qs42 q118 q1071, by decide +kernel, TX0, 20, rfl⟩
theorem sX0_274 : aw_SS RX0 274 yJ14_bitCount cJ14_bitCount 1 (some .int) 1 := ⟨lw_S q1100 q1101 q146 q1102, by decide +kernel⟩
theorem sX0_279 : aw_SV RX0 279 yX2_over cX2_over 3 (some .int) 2 2 := ⟨lw_V q1118 q1119 q1120 q123 q1121, by decide +kernel, TX2, 7, rfl⟩
theorem sX0_283 : aw_SV RX0 283 yX0_firstOver cX0_firstOver 2 (some .int) 0 0 := ⟨lw_V q1114 q1116 qs45 q118 q1117, by decide +kernel, TX0, 20, rfl⟩
theorem sX0_286 : aw_SV RX0 286 yX0_firstLack cX0_firstLack 2 (some .int) 0 0 := ⟨lw_V q1122 q1124 qs46 q118 q1125, by decide +kernel, TX0, 20, rfl⟩
theorem sX0_289 : aw_SV RX0 289 yX0_layLives cX0_layLives 2 none 0 0 := ⟨lw_V q1134 q1136 qs47 q118 q1137, by decide +kernel, TX0, 20, rfl⟩
theorem sX0_292 : aw_SV RX0 292 yX0_enviesBy cX0_enviesBy 5 (some .int) 1 0 := ⟨lw_V q1138 q1140 qs48 q118 q1141, by decide +kernel, TX0, 20, rfl⟩
theorem sX0_296 : aw_SV RX0 296 yX0_quarrel cX0_quarrel 1 (some .int) 0 0 := ⟨lw_V q1146 q1131 q1132 q118 q1133, by decide +kernel, TX0, 20, rfl⟩
theorem sX0_299 : aw_SV RX0 299 yX0_month cX0_month 2 (some .int) 1 0 := ⟨lw_V q1155 q1156 q1157 q118 q1158, by decide +kernel, TX0, 20, rfl⟩
theorem fX0_302 : aw_Fl RX0 302 0 17 := ⟨RX0, TX0, 20, "SoManyStairs", rfl, in_X0, by decide, Or.inl q402, rfl⟩
theorem pX0_302 (nm : String) : aw_Pl RX0 302 0 17 nm (.int) := ⟨RX0, TX0, 20, "SoManyStairs", tyX0, rfl, in_X0, by decide, Or.inl q402, rfl, tyX0_ok, nmX0, Or.inl rfl, rfl⟩
theorem sX0_305 : aw_SV RX0 305 yX0_costs cX0_costs 3 (some .int) 2 0 := ⟨lw_V q1159 q1161 qs49 q118 q1162, by decide +kernel, TX0, 20, rfl⟩
theorem sX0_308 : aw_SV RX0 308 yX0_goLet cX0_goLet 8 none 4 0 := ⟨lw_V q1167 q1169 qs50 q118 q1170, by decide +kernel, TX0, 20, rfl⟩
theorem sX0_312 : aw_SV RX0 312 yX1_pull cX1_pull 6 (some .int) 2 1 := ⟨lw_V q1184 q996 q997 q119 q998, by decide +kernel, TX1, 10, rfl⟩
theorem sX0_316 : aw_SV RX0 316 yX2_liftThen cX2_liftThen 3 (some .int) 2 2 := ⟨lw_V q1189 q992 q993 q123 q994, by decide +kernel, TX2, 7, rfl⟩
theorem sX0_319 : aw_SS RX0 319 yX0_common cX0_common 2 (some .int) 2 := ⟨lw_S q1194 q1195 q118 q1196, by decide +kernel⟩
theorem nX0_322 : aw_Nl RX0 322 12 6 [.int 0, .int 0, .int 0, .null, .int 0, .null] := ⟨RX14, TX14, tyX14, rfl, in_X14, tyX14_ok, q1213, q1214, q148, by decide +kernel⟩
theorem sX0_324 : aw_SI RX0 324 yX14_init cX14_init 4 3 := ⟨q1217, q1215, q1216, q148, rfl, by decide +kernel⟩
theorem sX0_327 : aw_SV RX0 327 yX0_tell cX0_tell 2 (some .int) 1 0 := ⟨lw_V q1242 q1244 qs51 q118 q1245, by decide +kernel, TX0, 20, rfl⟩
theorem nX0_331 : aw_Nl RX0 331 13 6 [.int 0, .int 0, .int 0, .null, .int 0, .null] := ⟨RX15, TX15, tyX15, rfl, in_X15, tyX15_ok, q1250, q1251, q149, by decide +kernel⟩
theorem sX0_333 : aw_SI RX0 333 yX15_init cX15_init 4 3 := ⟨q1254, q1252, q1253, q149, rfl, by decide +kernel⟩
theorem fX0_336 : aw_Fl RX0 336 12 2 := ⟨RX14, TX14, 6, "SoManyStairs$Mark", rfl, in_X14, by decide, Or.inl q1227, rfl⟩
theorem fX0_336_X15 : aw_Fl RX0 336 13 2 := ⟨RX15, TX15, 6, "SoManyStairs$Mark", rfl, in_X15, by decide, Or.inl q1227, rfl⟩
theorem fX0_339 : aw_Fl RX0 339 0 6 := ⟨RX0, TX0, 20, "SoManyStairs", rfl, in_X0, by decide, Or.inl q391, rfl⟩
theorem pX0_339 (nm : String) : aw_Pl RX0 339 0 6 nm (.int) := ⟨RX0, TX0, 20, "SoManyStairs", tyX0, rfl, in_X0, by decide, Or.inl q391, rfl, tyX0_ok, nmX0, Or.inl rfl, rfl⟩
theorem sX0_346 : aw_SV RX0 346 yX0_doesFit cX0_doesFit 6 (some .boolean) 4 0 := ⟨lw_V q1289 q1291 qs54 q118 q1292, by decide +kernel, TX0, 20, rfl⟩
theorem sX0_349 : aw_SV RX0 349 yX0_runsOf cX0_runsOf 7 (some .int) 3 0 := ⟨lw_V q1285 q1287 qs53 q118 q1288, by decide +kernel, TX0, 20, rfl⟩
theorem sX0_353 : aw_SV RX0 353 yX0_allRuns cX0_allRuns 5 (some .int) 2 0 := ⟨lw_V q1281 q1283 qs52 q118 q1284, by decide +kernel, TX0, 20, rfl⟩
theorem sX0_356 : aw_SV RX0 356 yX0_runs cX0_runs 2 (some .int) 1 0 := ⟨lw_V q1318 q1278 q1279 q118 q1280, by decide +kernel, TX0, 20, rfl⟩
theorem fX0_359 : aw_Fl RX0 359 1 4 := ⟨RX1, TX1, 10, "SoManyStairs$House", rfl, in_X1, by decide, Or.inr ⟨"SoManyStairs", List.mem_of_getElem? (i := 2) rfl⟩, rfl⟩
theorem nX1_9 : aw_Nl RX1 9 14 3 [.int 0, .null, .int 0] := ⟨RJ2, TJ2, tyJ2, rfl, in_J2, tyJ2_ok, q164, q165, q122, by decide +kernel⟩
theorem sX1_11 : aw_SI RX1 11 yJ2_init cJ2_init 1 0 := ⟨q168, q166, q167, q122, rfl, by decide +kernel⟩
theorem fX1_12 : aw_Fl RX1 12 1 0 := ⟨RX1, TX1, 10, "SoManyStairs$House", rfl, in_X1, by decide, Or.inl q193, rfl⟩
theorem pX1_12 : aw_Pl RX1 12 1 0 "<init>" (.object "java/util/ArrayList") := ⟨RX1, TX1, 10, "SoManyStairs$House", tyX1, rfl, in_X1, by decide, Or.inl q193, rfl, tyX1_ok, nmX1, Or.inr ⟨rfl, rfl, rfl⟩, rfl⟩
theorem fX1_18 : aw_Fl RX1 18 1 6 := ⟨RX1, TX1, 10, "SoManyStairs$House", rfl, in_X1, by decide, Or.inl q205, rfl⟩
theorem pX1_18 (nm : String) : aw_Pl RX1 18 1 6 nm (.int) := ⟨RX1, TX1, 10, "SoManyStairs$House", tyX1, rfl, in_X1, by decide, Or.inl q205, rfl, tyX1_ok, nmX1, Or.inl rfl, rfl⟩
theorem fX1_22 : aw_Fl RX1 22 1 9 := ⟨RX1, TX1, 10, "SoManyStairs$House", rfl, in_X1, by decide, Or.inl q213, rfl⟩
theorem pX1_22 : aw_Pl RX1 22 1 9 "<init>" (.array .int) := ⟨RX1, TX1, 10, "SoManyStairs$House", tyX1, rfl, in_X1, by decide, Or.inl q213, rfl, tyX1_ok, nmX1, Or.inr ⟨rfl, rfl, rfl⟩, rfl⟩
theorem fX1_26 : aw_Fl RX1 26 2 5 := ⟨RX2, TX2, 7, "SoManyStairs$State", rfl, in_X2, by decide, Or.inr ⟨"SoManyStairs", List.mem_of_getElem? (i := 22) rfl⟩, rfl⟩
theorem fX1_31 : aw_Fl RX1 31 2 4 := ⟨RX2, TX2, 7, "SoManyStairs$State", rfl, in_X2, by decide, Or.inr ⟨"SoManyStairs", List.mem_of_getElem? (i := 21) rfl⟩, rfl⟩
theorem fX1_34 : aw_Fl RX1 34 1 1 := ⟨RX1, TX1, 10, "SoManyStairs$House", rfl, in_X1, by decide, Or.inl q197, rfl⟩
theorem sX1_38 : aw_SS RX1 38 yJ12_min cJ12_min 2 (some .int) 2 := ⟨lw_S q923 q777 q138 q778, by decide +kernel⟩
theorem sX1_44 : aw_SV RX1 44 yX1_tell cX1_tell 6 none 5 1 := ⟨lw_V q924 q926 qs34 q119 q927, by decide +kernel, TX1, 10, rfl⟩
theorem sX1_54 : aw_SSN RX1 54 yX0_within cX0_within 2 (some .int) 2 "SoManyStairs" := ⟨q950, q949, q118, List.mem_of_getElem? (i := 3) rfl, by decide +kernel⟩
theorem fX1_57 : aw_Fl RX1 57 1 2 := ⟨RX1, TX1, 10, "SoManyStairs$House", rfl, in_X1, by decide, Or.inl q199, rfl⟩
theorem sX1_60 : aw_SV RX1 60 yJ2_iterator cJ2_iterator 1 (some (.object "java/util/Iterator")) 0 14 := ⟨lw_V q999 q629 q630 q122 q631, by decide +kernel, TJ2, 3, rfl⟩
theorem fX1_76 : aw_Fl RX1 76 7 3 := ⟨RX7, TX7, 6, "SoManyStairs$Tenant", rfl, in_X7, by decide, Or.inr ⟨"SoManyStairs", List.mem_of_getElem? (i := 23) rfl⟩, rfl⟩
theorem sX1_79 : aw_SV RX1 79 yJ2_get cJ2_get 2 (some (.object "java/lang/Object")) 1 14 := ⟨lw_V q916 q365 q366 q122 q367, by decide +kernel, TJ2, 3, rfl⟩
theorem sX1_83 : aw_SV RX1 83 yX1_heavyOf cX1_heavyOf 2 (some .int) 1 1 := ⟨lw_V q912 q913 q914 q119 q915, by decide +kernel, TX1, 10, rfl⟩
theorem sX10_1 : aw_SIN RX10 1 yX8_init cX8_init 1 0 "SoManyStairs" := ⟨q812, List.mem_of_getElem? (i := 4) rfl, q811, q141, rfl, by decide +kernel⟩
theorem fX10_7 : aw_Fl RX10 7 9 0 := ⟨RX10, TX10, 1, "SoManyStairs$Numeral", rfl, in_X10, by decide, Or.inl q842, rfl⟩
theorem pX10_7 : aw_Pl RX10 7 9 0 "<init>" (.int) := ⟨RX10, TX10, 1, "SoManyStairs$Numeral", tyX10, rfl, in_X10, by decide, Or.inl q842, rfl, tyX10_ok, nmX10, Or.inr ⟨rfl, rfl, rfl⟩, rfl⟩
theorem sX11_1 : aw_SIN RX11 1 yX8_init cX8_init 1 0 "SoManyStairs" := ⟨q812, List.mem_of_getElem? (i := 5) rfl, q811, q141, rfl, by decide +kernel⟩
theorem fX11_7 : aw_Fl RX11 7 10 0 := ⟨RX11, TX11, 1, "SoManyStairs$Named", rfl, in_X11, by decide, Or.inl q852, rfl⟩
theorem pX11_7 : aw_Pl RX11 7 10 0 "<init>" (.int) := ⟨RX11, TX11, 1, "SoManyStairs$Named", tyX11, rfl, in_X11, by decide, Or.inl q852, rfl, tyX11_ok, nmX11, Or.inr ⟨rfl, rfl, rfl⟩, rfl⟩
theorem sX12_1 : aw_SIN RX12 1 yX8_init cX8_init 1 0 "SoManyStairs" := ⟨q812, List.mem_of_getElem? (i := 6) rfl, q811, q141, rfl, by decide +kernel⟩
theorem fX12_7 : aw_Fl RX12 7 11 0 := ⟨RX12, TX12, 3, "SoManyStairs$Two", rfl, in_X12, by decide, Or.inl q862, rfl⟩
theorem pX12_7 : aw_Pl RX12 7 11 0 "<init>" (.int) := ⟨RX12, TX12, 3, "SoManyStairs$Two", tyX12, rfl, in_X12, by decide, Or.inl q862, rfl, tyX12_ok, nmX12, Or.inr ⟨rfl, rfl, rfl⟩, rfl⟩
theorem fX12_13 : aw_Fl RX12 13 11 1 := ⟨RX12, TX12, 3, "SoManyStairs$Two", rfl, in_X12, by decide, Or.inl q863, rfl⟩
theorem pX12_13 : aw_Pl RX12 13 11 1 "<init>" (.object "SoManyStairs$Part") := ⟨RX12, TX12, 3, "SoManyStairs$Two", tyX12, rfl, in_X12, by decide, Or.inl q863, rfl, tyX12_ok, nmX12, Or.inr ⟨rfl, rfl, rfl⟩, rfl⟩
theorem fX12_17 : aw_Fl RX12 17 11 2 := ⟨RX12, TX12, 3, "SoManyStairs$Two", rfl, in_X12, by decide, Or.inl q864, rfl⟩
theorem pX12_17 : aw_Pl RX12 17 11 2 "<init>" (.object "SoManyStairs$Part") := ⟨RX12, TX12, 3, "SoManyStairs$Two", tyX12, rfl, in_X12, by decide, Or.inl q864, rfl, tyX12_ok, nmX12, Or.inr ⟨rfl, rfl, rfl⟩, rfl⟩
theorem sX12_24 : aw_SS RX12 24 yX12_is cX12_is 1 (some .int) 1 := ⟨lw_S q943 q944 q145 q945, by decide +kernel⟩
theorem fX13_3 : aw_Fl RX13 3 12 3 := ⟨RX14, TX14, 6, "SoManyStairs$Mark", rfl, in_X14, by decide, Or.inl q1228, rfl⟩
theorem fX13_3_X15 : aw_Fl RX13 3 13 3 := ⟨RX15, TX15, 6, "SoManyStairs$Mark", rfl, in_X15, by decide, Or.inl q1228, rfl⟩
theorem fX13_15 : aw_Fl RX13 15 0 6 := ⟨RX0, TX0, 20, "SoManyStairs", rfl, in_X0, by decide, Or.inr ⟨"SoManyStairs", List.mem_of_getElem? (i := 24) rfl⟩, rfl⟩
theorem fX13_19 : aw_Fl RX13 19 12 0 := ⟨RX14, TX14, 6, "SoManyStairs$Mark", rfl, in_X14, by decide, Or.inl q1224, rfl⟩
theorem fX13_19_X15 : aw_Fl RX13 19 13 0 := ⟨RX15, TX15, 6, "SoManyStairs$Mark", rfl, in_X15, by decide, Or.inl q1224, rfl⟩
theorem fX13_22 : aw_Fl RX13 22 12 2 := ⟨RX14, TX14, 6, "SoManyStairs$Mark", rfl, in_X14, by decide, Or.inl q1226, rfl⟩
theorem fX13_22_X15 : aw_Fl RX13 22 13 2 := ⟨RX15, TX15, 6, "SoManyStairs$Mark", rfl, in_X15, by decide, Or.inl q1226, rfl⟩
theorem fX13_25 : aw_Fl RX13 25 12 1 := ⟨RX14, TX14, 6, "SoManyStairs$Mark", rfl, in_X14, by decide, Or.inl q1225, rfl⟩
theorem fX13_25_X15 : aw_Fl RX13 25 13 1 := ⟨RX15, TX15, 6, "SoManyStairs$Mark", rfl, in_X15, by decide, Or.inl q1225, rfl⟩
theorem sX14_7 : aw_SI RX14 7 yX13_init cX13_init 3 2 := ⟨q1220, q1218, q1219, q147, rfl, by decide +kernel⟩
theorem fX14_13 : aw_Fl RX14 13 12 4 := ⟨RX14, TX14, 6, "SoManyStairs$Chalk", rfl, in_X14, by decide, Or.inl q1222, rfl⟩
theorem sX14_17 : aw_SSN RX14 17 yX0_isIn cX0_isIn 3 (some .boolean) 3 "SoManyStairs" := ⟨q888, q887, q118, List.mem_of_getElem? (i := 7) rfl, by decide +kernel⟩
theorem fX15_1 : aw_Fl RX15 1 13 5 := ⟨RX15, TX15, 6, "SoManyStairs$Tread", rfl, in_X15, by decide, Or.inl q1257, rfl⟩
theorem sX15_7 : aw_SI RX15 7 yX13_init cX13_init 3 2 := ⟨q1220, q1255, q1219, q147, rfl, by decide +kernel⟩
theorem fX15_13 : aw_Fl RX15 13 13 4 := ⟨RX15, TX15, 6, "SoManyStairs$Tread", rfl, in_X15, by decide, Or.inl q1256, rfl⟩
theorem fX15_17 : aw_Fl RX15 17 0 0 := ⟨RX0, TX0, 20, "SoManyStairs", rfl, in_X0, by decide, Or.inr ⟨"SoManyStairs", List.mem_of_getElem? (i := 25) rfl⟩, rfl⟩
theorem sX15_23 : aw_SV RX15 23 yX1_heavyOf cX1_heavyOf 2 (some .int) 1 1 := ⟨lw_V q1309 q913 q914 q119 q915, by decide +kernel, TX1, 10, rfl⟩
theorem fX2_9 : aw_Fl RX2 9 2 0 := ⟨RX2, TX2, 7, "SoManyStairs$State", rfl, in_X2, by decide, Or.inl q242, rfl⟩
theorem pX2_9 : aw_Pl RX2 9 2 0 "<init>" (.array .int) := ⟨RX2, TX2, 7, "SoManyStairs$State", tyX2, rfl, in_X2, by decide, Or.inl q242, rfl, tyX2_ok, nmX2, Or.inr ⟨rfl, rfl, rfl⟩, rfl⟩
theorem fX2_15 : aw_Fl RX2 15 2 1 := ⟨RX2, TX2, 7, "SoManyStairs$State", rfl, in_X2, by decide, Or.inl q244, rfl⟩
theorem pX2_15 : aw_Pl RX2 15 2 1 "<init>" (.array .int) := ⟨RX2, TX2, 7, "SoManyStairs$State", tyX2, rfl, in_X2, by decide, Or.inl q244, rfl, tyX2_ok, nmX2, Or.inr ⟨rfl, rfl, rfl⟩, rfl⟩
theorem fX2_18 : aw_Fl RX2 18 2 2 := ⟨RX2, TX2, 7, "SoManyStairs$State", rfl, in_X2, by decide, Or.inl q246, rfl⟩
theorem pX2_18 : aw_Pl RX2 18 2 2 "<init>" (.array .int) := ⟨RX2, TX2, 7, "SoManyStairs$State", tyX2, rfl, in_X2, by decide, Or.inl q246, rfl, tyX2_ok, nmX2, Or.inr ⟨rfl, rfl, rfl⟩, rfl⟩
theorem fX2_27 : aw_Fl RX2 27 2 3 := ⟨RX2, TX2, 7, "SoManyStairs$State", rfl, in_X2, by decide, Or.inl q248, rfl⟩
theorem pX2_27 (nm : String) : aw_Pl RX2 27 2 3 nm (.int) := ⟨RX2, TX2, 7, "SoManyStairs$State", tyX2, rfl, in_X2, by decide, Or.inl q248, rfl, tyX2_ok, nmX2, Or.inl rfl, rfl⟩
theorem fX2_31 : aw_Fl RX2 31 2 4 := ⟨RX2, TX2, 7, "SoManyStairs$State", rfl, in_X2, by decide, Or.inl q251, rfl⟩
theorem pX2_31 (nm : String) : aw_Pl RX2 31 2 4 nm (.int) := ⟨RX2, TX2, 7, "SoManyStairs$State", tyX2, rfl, in_X2, by decide, Or.inl q251, rfl, tyX2_ok, nmX2, Or.inl rfl, rfl⟩
theorem fX2_34 : aw_Fl RX2 34 2 5 := ⟨RX2, TX2, 7, "SoManyStairs$State", rfl, in_X2, by decide, Or.inl q254, rfl⟩
theorem pX2_34 (nm : String) : aw_Pl RX2 34 2 5 nm (.int) := ⟨RX2, TX2, 7, "SoManyStairs$State", tyX2, rfl, in_X2, by decide, Or.inl q254, rfl, tyX2_ok, nmX2, Or.inl rfl, rfl⟩
theorem fX2_37 : aw_Fl RX2 37 2 6 := ⟨RX2, TX2, 7, "SoManyStairs$State", rfl, in_X2, by decide, Or.inl q256, rfl⟩
theorem pX2_37 (nm : String) : aw_Pl RX2 37 2 6 nm (.int) := ⟨RX2, TX2, 7, "SoManyStairs$State", tyX2, rfl, in_X2, by decide, Or.inl q256, rfl, tyX2_ok, nmX2, Or.inl rfl, rfl⟩
theorem fX2_40 : aw_Fl RX2 40 1 0 := ⟨RX1, TX1, 10, "SoManyStairs$House", rfl, in_X1, by decide, Or.inr ⟨"SoManyStairs", List.mem_of_getElem? (i := 26) rfl⟩, rfl⟩
theorem sX2_46 : aw_SV RX2 46 yJ2_get cJ2_get 2 (some (.object "java/lang/Object")) 1 14 := ⟨lw_V q897 q365 q366 q122 q367, by decide +kernel, TJ2, 3, rfl⟩
theorem fX2_54 : aw_Fl RX2 54 7 4 := ⟨RX7, TX7, 6, "SoManyStairs$Tenant", rfl, in_X7, by decide, Or.inr ⟨"SoManyStairs", List.mem_of_getElem? (i := 29) rfl⟩, rfl⟩
theorem sX2_57 : aw_SS RX2 57 yJ12_max cJ12_max 2 (some .int) 2 := ⟨lw_S q899 q741 q138 q742, by decide +kernel⟩
theorem sX2_63 : aw_SV RX2 63 yX1_pull cX1_pull 6 (some .int) 2 1 := ⟨lw_V q995 q996 q997 q119 q998, by decide +kernel, TX1, 10, rfl⟩
theorem fX2_67 : aw_Fl RX2 67 1 6 := ⟨RX1, TX1, 10, "SoManyStairs$House", rfl, in_X1, by decide, Or.inr ⟨"SoManyStairs", List.mem_of_getElem? (i := 27) rfl⟩, rfl⟩
theorem sX2_70 : aw_SSN RX2 70 yX0_within cX0_within 2 (some .int) 2 "SoManyStairs" := ⟨q950, q949, q118, List.mem_of_getElem? (i := 8) rfl, by decide +kernel⟩
theorem sX2_73 : aw_SV RX2 73 yX2_liftThen cX2_liftThen 3 (some .int) 2 2 := ⟨lw_V q991 q992 q993 q123 q994, by decide +kernel, TX2, 7, rfl⟩
theorem sX2_77 : aw_SV RX2 77 yJ2_size cJ2_size 1 (some .int) 0 14 := ⟨lw_V q1005 q361 q362 q122 q363, by decide +kernel, TJ2, 3, rfl⟩
theorem fX2_81 : aw_Fl RX2 81 7 2 := ⟨RX7, TX7, 6, "SoManyStairs$Tenant", rfl, in_X7, by decide, Or.inr ⟨"SoManyStairs", List.mem_of_getElem? (i := 28) rfl⟩, rfl⟩
theorem sX2_84 : aw_SV RX2 84 yX2_pay cX2_pay 4 none 2 2 := ⟨lw_V q1006 q1008 qs37 q123 q1009, by decide +kernel, TX2, 7, rfl⟩
theorem sX2_88 : aw_SS RX2 88 yJ12_min cJ12_min 2 (some .int) 2 := ⟨lw_S q1010 q777 q138 q778, by decide +kernel⟩
theorem sX3_1 : aw_SI RX3 1 yJ4_init cJ4_init 1 0 := ⟨q315, q313, q314, q125, rfl, by decide +kernel⟩
theorem pX3_7 (nm : String) : aw_Pl RX3 7 3 6 nm (.int) := ⟨RX3, TX3, 8, "SoManyStairs$Wrong", tyX3, rfl, in_X3, by decide, Or.inl q317, rfl, tyX3_ok, nmX3, Or.inl rfl, rfl⟩
theorem pX3_13 (nm : String) : aw_Pl RX3 13 3 7 nm (.int) := ⟨RX3, TX3, 8, "SoManyStairs$Wrong", tyX3, rfl, in_X3, by decide, Or.inl q319, rfl, tyX3_ok, nmX3, Or.inl rfl, rfl⟩
theorem pX4_7 (nm : String) : aw_Pl RX4 7 4 0 nm (.object "SoManyStairs$State") := ⟨RX4, TX4, 1, "SoManyStairs$Kept", tyX4, rfl, in_X4, by decide, Or.inl q347, rfl, tyX4_ok, nmX4, Or.inl rfl, rfl⟩
theorem fX5_7 : aw_Fl RX5 7 5 0 := ⟨RX5, TX5, 69, "SoManyStairsModel", rfl, in_X5, by decide, Or.inl q1337, rfl⟩
theorem pX5_7 : aw_Pl RX5 7 5 0 "<init>" (.array .int) := ⟨RX5, TX5, 69, "SoManyStairsModel", tyX5, rfl, in_X5, by decide, Or.inl q1337, rfl, tyX5_ok, nmX5, Or.inr ⟨rfl, rfl, rfl⟩, rfl⟩
theorem fX5_13 : aw_Fl RX5 13 5 3 := ⟨RX5, TX5, 69, "SoManyStairsModel", rfl, in_X5, by decide, Or.inl q1340, rfl⟩
theorem pX5_13 (nm : String) : aw_Pl RX5 13 5 3 nm (.int) := ⟨RX5, TX5, 69, "SoManyStairsModel", tyX5, rfl, in_X5, by decide, Or.inl q1340, rfl, tyX5_ok, nmX5, Or.inl rfl, rfl⟩
theorem fX5_17 : aw_Fl RX5 17 5 10 := ⟨RX5, TX5, 69, "SoManyStairsModel", rfl, in_X5, by decide, Or.inl q1347, rfl⟩
theorem pX5_17 : aw_Pl RX5 17 5 10 "<init>" (.array .long) := ⟨RX5, TX5, 69, "SoManyStairsModel", tyX5, rfl, in_X5, by decide, Or.inl q1347, rfl, tyX5_ok, nmX5, Or.inr ⟨rfl, rfl, rfl⟩, rfl⟩
theorem fX5_21 : aw_Fl RX5 21 5 11 := ⟨RX5, TX5, 69, "SoManyStairsModel", rfl, in_X5, by decide, Or.inl q1348, rfl⟩
theorem pX5_21 : aw_Pl RX5 21 5 11 "<init>" (.array .int) := ⟨RX5, TX5, 69, "SoManyStairsModel", tyX5, rfl, in_X5, by decide, Or.inl q1348, rfl, tyX5_ok, nmX5, Or.inr ⟨rfl, rfl, rfl⟩, rfl⟩
theorem fX5_24 : aw_Fl RX5 24 5 12 := ⟨RX5, TX5, 69, "SoManyStairsModel", rfl, in_X5, by decide, Or.inl q1349, rfl⟩
theorem pX5_24 : aw_Pl RX5 24 5 12 "<init>" (.array .int) := ⟨RX5, TX5, 69, "SoManyStairsModel", tyX5, rfl, in_X5, by decide, Or.inl q1349, rfl, tyX5_ok, nmX5, Or.inr ⟨rfl, rfl, rfl⟩, rfl⟩
theorem fX5_27 : aw_Fl RX5 27 5 13 := ⟨RX5, TX5, 69, "SoManyStairsModel", rfl, in_X5, by decide, Or.inl q1350, rfl⟩
theorem pX5_27 : aw_Pl RX5 27 5 13 "<init>" (.array .int) := ⟨RX5, TX5, 69, "SoManyStairsModel", tyX5, rfl, in_X5, by decide, Or.inl q1350, rfl, tyX5_ok, nmX5, Or.inr ⟨rfl, rfl, rfl⟩, rfl⟩
theorem fX5_30 : aw_Fl RX5 30 5 14 := ⟨RX5, TX5, 69, "SoManyStairsModel", rfl, in_X5, by decide, Or.inl q1351, rfl⟩
theorem pX5_30 : aw_Pl RX5 30 5 14 "<init>" (.array .int) := ⟨RX5, TX5, 69, "SoManyStairsModel", tyX5, rfl, in_X5, by decide, Or.inl q1351, rfl, tyX5_ok, nmX5, Or.inr ⟨rfl, rfl, rfl⟩, rfl⟩
theorem fX5_33 : aw_Fl RX5 33 5 15 := ⟨RX5, TX5, 69, "SoManyStairsModel", rfl, in_X5, by decide, Or.inl q1352, rfl⟩
theorem pX5_33 : aw_Pl RX5 33 5 15 "<init>" (.array .int) := ⟨RX5, TX5, 69, "SoManyStairsModel", tyX5, rfl, in_X5, by decide, Or.inl q1352, rfl, tyX5_ok, nmX5, Or.inr ⟨rfl, rfl, rfl⟩, rfl⟩
theorem fX5_36 : aw_Fl RX5 36 5 16 := ⟨RX5, TX5, 69, "SoManyStairsModel", rfl, in_X5, by decide, Or.inl q1353, rfl⟩
theorem pX5_36 : aw_Pl RX5 36 5 16 "<init>" (.array .int) := ⟨RX5, TX5, 69, "SoManyStairsModel", tyX5, rfl, in_X5, by decide, Or.inl q1353, rfl, tyX5_ok, nmX5, Or.inr ⟨rfl, rfl, rfl⟩, rfl⟩
theorem fX5_39 : aw_Fl RX5 39 5 17 := ⟨RX5, TX5, 69, "SoManyStairsModel", rfl, in_X5, by decide, Or.inl q1354, rfl⟩
theorem pX5_39 : aw_Pl RX5 39 5 17 "<init>" (.array .int) := ⟨RX5, TX5, 69, "SoManyStairsModel", tyX5, rfl, in_X5, by decide, Or.inl q1354, rfl, tyX5_ok, nmX5, Or.inr ⟨rfl, rfl, rfl⟩, rfl⟩
theorem fX5_42 : aw_Fl RX5 42 5 18 := ⟨RX5, TX5, 69, "SoManyStairsModel", rfl, in_X5, by decide, Or.inl q1355, rfl⟩
theorem pX5_42 : aw_Pl RX5 42 5 18 "<init>" (.array .int) := ⟨RX5, TX5, 69, "SoManyStairsModel", tyX5, rfl, in_X5, by decide, Or.inl q1355, rfl, tyX5_ok, nmX5, Or.inr ⟨rfl, rfl, rfl⟩, rfl⟩
theorem fX5_45 : aw_Fl RX5 45 5 19 := ⟨RX5, TX5, 69, "SoManyStairsModel", rfl, in_X5, by decide, Or.inl q1356, rfl⟩
theorem pX5_45 : aw_Pl RX5 45 5 19 "<init>" (.array .boolean) := ⟨RX5, TX5, 69, "SoManyStairsModel", tyX5, rfl, in_X5, by decide, Or.inl q1356, rfl, tyX5_ok, nmX5, Or.inr ⟨rfl, rfl, rfl⟩, rfl⟩
theorem fX5_49 : aw_Fl RX5 49 5 26 := ⟨RX5, TX5, 69, "SoManyStairsModel", rfl, in_X5, by decide, Or.inl q1363, rfl⟩
theorem pX5_49 : aw_Pl RX5 49 5 26 "<init>" (.array .int) := ⟨RX5, TX5, 69, "SoManyStairsModel", tyX5, rfl, in_X5, by decide, Or.inl q1363, rfl, tyX5_ok, nmX5, Or.inr ⟨rfl, rfl, rfl⟩, rfl⟩
theorem fX5_52 : aw_Fl RX5 52 5 27 := ⟨RX5, TX5, 69, "SoManyStairsModel", rfl, in_X5, by decide, Or.inl q1364, rfl⟩
theorem pX5_52 : aw_Pl RX5 52 5 27 "<init>" (.array .int) := ⟨RX5, TX5, 69, "SoManyStairsModel", tyX5, rfl, in_X5, by decide, Or.inl q1364, rfl, tyX5_ok, nmX5, Or.inr ⟨rfl, rfl, rfl⟩, rfl⟩
theorem fX5_55 : aw_Fl RX5 55 5 28 := ⟨RX5, TX5, 69, "SoManyStairsModel", rfl, in_X5, by decide, Or.inl q1365, rfl⟩
theorem pX5_55 : aw_Pl RX5 55 5 28 "<init>" (.array .int) := ⟨RX5, TX5, 69, "SoManyStairsModel", tyX5, rfl, in_X5, by decide, Or.inl q1365, rfl, tyX5_ok, nmX5, Or.inr ⟨rfl, rfl, rfl⟩, rfl⟩
theorem fX5_58 : aw_Fl RX5 58 5 29 := ⟨RX5, TX5, 69, "SoManyStairsModel", rfl, in_X5, by decide, Or.inl q1366, rfl⟩
theorem pX5_58 : aw_Pl RX5 58 5 29 "<init>" (.array .int) := ⟨RX5, TX5, 69, "SoManyStairsModel", tyX5, rfl, in_X5, by decide, Or.inl q1366, rfl, tyX5_ok, nmX5, Or.inr ⟨rfl, rfl, rfl⟩, rfl⟩
theorem fX5_61 : aw_Fl RX5 61 5 30 := ⟨RX5, TX5, 69, "SoManyStairsModel", rfl, in_X5, by decide, Or.inl q1367, rfl⟩
theorem pX5_61 : aw_Pl RX5 61 5 30 "<init>" (.array .int) := ⟨RX5, TX5, 69, "SoManyStairsModel", tyX5, rfl, in_X5, by decide, Or.inl q1367, rfl, tyX5_ok, nmX5, Or.inr ⟨rfl, rfl, rfl⟩, rfl⟩
theorem fX5_64 : aw_Fl RX5 64 5 31 := ⟨RX5, TX5, 69, "SoManyStairsModel", rfl, in_X5, by decide, Or.inl q1368, rfl⟩
theorem pX5_64 : aw_Pl RX5 64 5 31 "<init>" (.array .int) := ⟨RX5, TX5, 69, "SoManyStairsModel", tyX5, rfl, in_X5, by decide, Or.inl q1368, rfl, tyX5_ok, nmX5, Or.inr ⟨rfl, rfl, rfl⟩, rfl⟩
theorem fX5_67 : aw_Fl RX5 67 5 32 := ⟨RX5, TX5, 69, "SoManyStairsModel", rfl, in_X5, by decide, Or.inl q1369, rfl⟩
theorem pX5_67 : aw_Pl RX5 67 5 32 "<init>" (.array .int) := ⟨RX5, TX5, 69, "SoManyStairsModel", tyX5, rfl, in_X5, by decide, Or.inl q1369, rfl, tyX5_ok, nmX5, Or.inr ⟨rfl, rfl, rfl⟩, rfl⟩
theorem fX5_70 : aw_Fl RX5 70 5 33 := ⟨RX5, TX5, 69, "SoManyStairsModel", rfl, in_X5, by decide, Or.inl q1370, rfl⟩
theorem pX5_70 : aw_Pl RX5 70 5 33 "<init>" (.array .int) := ⟨RX5, TX5, 69, "SoManyStairsModel", tyX5, rfl, in_X5, by decide, Or.inl q1370, rfl, tyX5_ok, nmX5, Or.inr ⟨rfl, rfl, rfl⟩, rfl⟩
theorem fX5_73 : aw_Fl RX5 73 5 34 := ⟨RX5, TX5, 69, "SoManyStairsModel", rfl, in_X5, by decide, Or.inl q1371, rfl⟩
theorem pX5_73 : aw_Pl RX5 73 5 34 "<init>" (.array .int) := ⟨RX5, TX5, 69, "SoManyStairsModel", tyX5, rfl, in_X5, by decide, Or.inl q1371, rfl, tyX5_ok, nmX5, Or.inr ⟨rfl, rfl, rfl⟩, rfl⟩
theorem fX5_76 : aw_Fl RX5 76 5 35 := ⟨RX5, TX5, 69, "SoManyStairsModel", rfl, in_X5, by decide, Or.inl q1372, rfl⟩
theorem pX5_76 : aw_Pl RX5 76 5 35 "<init>" (.array .int) := ⟨RX5, TX5, 69, "SoManyStairsModel", tyX5, rfl, in_X5, by decide, Or.inl q1372, rfl, tyX5_ok, nmX5, Or.inr ⟨rfl, rfl, rfl⟩, rfl⟩
theorem fX5_79 : aw_Fl RX5 79 5 36 := ⟨RX5, TX5, 69, "SoManyStairsModel", rfl, in_X5, by decide, Or.inl q1373, rfl⟩
theorem pX5_79 : aw_Pl RX5 79 5 36 "<init>" (.array .int) := ⟨RX5, TX5, 69, "SoManyStairsModel", tyX5, rfl, in_X5, by decide, Or.inl q1373, rfl, tyX5_ok, nmX5, Or.inr ⟨rfl, rfl, rfl⟩, rfl⟩
theorem fX5_82 : aw_Fl RX5 82 5 41 := ⟨RX5, TX5, 69, "SoManyStairsModel", rfl, in_X5, by decide, Or.inl q1378, rfl⟩
theorem pX5_82 (nm : String) : aw_Pl RX5 82 5 41 nm (.int) := ⟨RX5, TX5, 69, "SoManyStairsModel", tyX5, rfl, in_X5, by decide, Or.inl q1378, rfl, tyX5_ok, nmX5, Or.inl rfl, rfl⟩
theorem fX5_85 : aw_Fl RX5 85 5 45 := ⟨RX5, TX5, 69, "SoManyStairsModel", rfl, in_X5, by decide, Or.inl q1382, rfl⟩
theorem pX5_85 : aw_Pl RX5 85 5 45 "<init>" (.array .int) := ⟨RX5, TX5, 69, "SoManyStairsModel", tyX5, rfl, in_X5, by decide, Or.inl q1382, rfl, tyX5_ok, nmX5, Or.inr ⟨rfl, rfl, rfl⟩, rfl⟩
theorem fX5_88 : aw_Fl RX5 88 5 46 := ⟨RX5, TX5, 69, "SoManyStairsModel", rfl, in_X5, by decide, Or.inl q1383, rfl⟩
theorem pX5_88 : aw_Pl RX5 88 5 46 "<init>" (.array .int) := ⟨RX5, TX5, 69, "SoManyStairsModel", tyX5, rfl, in_X5, by decide, Or.inl q1383, rfl, tyX5_ok, nmX5, Or.inr ⟨rfl, rfl, rfl⟩, rfl⟩
theorem fX5_91 : aw_Fl RX5 91 5 47 := ⟨RX5, TX5, 69, "SoManyStairsModel", rfl, in_X5, by decide, Or.inl q1384, rfl⟩
theorem pX5_91 : aw_Pl RX5 91 5 47 "<init>" (.array .int) := ⟨RX5, TX5, 69, "SoManyStairsModel", tyX5, rfl, in_X5, by decide, Or.inl q1384, rfl, tyX5_ok, nmX5, Or.inr ⟨rfl, rfl, rfl⟩, rfl⟩
theorem fX5_94 : aw_Fl RX5 94 5 50 := ⟨RX5, TX5, 69, "SoManyStairsModel", rfl, in_X5, by decide, Or.inl q1387, rfl⟩
theorem pX5_94 : aw_Pl RX5 94 5 50 "<init>" (.array .int) := ⟨RX5, TX5, 69, "SoManyStairsModel", tyX5, rfl, in_X5, by decide, Or.inl q1387, rfl, tyX5_ok, nmX5, Or.inr ⟨rfl, rfl, rfl⟩, rfl⟩
theorem fX5_97 : aw_Fl RX5 97 5 51 := ⟨RX5, TX5, 69, "SoManyStairsModel", rfl, in_X5, by decide, Or.inl q1388, rfl⟩
theorem pX5_97 : aw_Pl RX5 97 5 51 "<init>" (.array .int) := ⟨RX5, TX5, 69, "SoManyStairsModel", tyX5, rfl, in_X5, by decide, Or.inl q1388, rfl, tyX5_ok, nmX5, Or.inr ⟨rfl, rfl, rfl⟩, rfl⟩
theorem fX5_100 : aw_Fl RX5 100 5 53 := ⟨RX5, TX5, 69, "SoManyStairsModel", rfl, in_X5, by decide, Or.inl q1390, rfl⟩
theorem pX5_100 : aw_Pl RX5 100 5 53 "<init>" (.array .int) := ⟨RX5, TX5, 69, "SoManyStairsModel", tyX5, rfl, in_X5, by decide, Or.inl q1390, rfl, tyX5_ok, nmX5, Or.inr ⟨rfl, rfl, rfl⟩, rfl⟩
theorem fX5_103 : aw_Fl RX5 103 5 54 := ⟨RX5, TX5, 69, "SoManyStairsModel", rfl, in_X5, by decide, Or.inl q1391, rfl⟩
theorem pX5_103 : aw_Pl RX5 103 5 54 "<init>" (.array .int) := ⟨RX5, TX5, 69, "SoManyStairsModel", tyX5, rfl, in_X5, by decide, Or.inl q1391, rfl, tyX5_ok, nmX5, Or.inr ⟨rfl, rfl, rfl⟩, rfl⟩
theorem fX5_106 : aw_Fl RX5 106 5 55 := ⟨RX5, TX5, 69, "SoManyStairsModel", rfl, in_X5, by decide, Or.inl q1392, rfl⟩
theorem pX5_106 : aw_Pl RX5 106 5 55 "<init>" (.array .int) := ⟨RX5, TX5, 69, "SoManyStairsModel", tyX5, rfl, in_X5, by decide, Or.inl q1392, rfl, tyX5_ok, nmX5, Or.inr ⟨rfl, rfl, rfl⟩, rfl⟩
theorem fX5_109 : aw_Fl RX5 109 5 56 := ⟨RX5, TX5, 69, "SoManyStairsModel", rfl, in_X5, by decide, Or.inl q1393, rfl⟩
theorem pX5_109 : aw_Pl RX5 109 5 56 "<init>" (.array .boolean) := ⟨RX5, TX5, 69, "SoManyStairsModel", tyX5, rfl, in_X5, by decide, Or.inl q1393, rfl, tyX5_ok, nmX5, Or.inr ⟨rfl, rfl, rfl⟩, rfl⟩
theorem fX5_112 : aw_Fl RX5 112 5 57 := ⟨RX5, TX5, 69, "SoManyStairsModel", rfl, in_X5, by decide, Or.inl q1394, rfl⟩
theorem pX5_112 : aw_Pl RX5 112 5 57 "<init>" (.array .int) := ⟨RX5, TX5, 69, "SoManyStairsModel", tyX5, rfl, in_X5, by decide, Or.inl q1394, rfl, tyX5_ok, nmX5, Or.inr ⟨rfl, rfl, rfl⟩, rfl⟩
theorem fX5_115 : aw_Fl RX5 115 5 58 := ⟨RX5, TX5, 69, "SoManyStairsModel", rfl, in_X5, by decide, Or.inl q1395, rfl⟩
theorem pX5_115 : aw_Pl RX5 115 5 58 "<init>" (.array .int) := ⟨RX5, TX5, 69, "SoManyStairsModel", tyX5, rfl, in_X5, by decide, Or.inl q1395, rfl, tyX5_ok, nmX5, Or.inr ⟨rfl, rfl, rfl⟩, rfl⟩
theorem fX5_118 : aw_Fl RX5 118 5 59 := ⟨RX5, TX5, 69, "SoManyStairsModel", rfl, in_X5, by decide, Or.inl q1396, rfl⟩
theorem pX5_118 : aw_Pl RX5 118 5 59 "<init>" (.array .int) := ⟨RX5, TX5, 69, "SoManyStairsModel", tyX5, rfl, in_X5, by decide, Or.inl q1396, rfl, tyX5_ok, nmX5, Or.inr ⟨rfl, rfl, rfl⟩, rfl⟩
theorem fX5_121 : aw_Fl RX5 121 5 60 := ⟨RX5, TX5, 69, "SoManyStairsModel", rfl, in_X5, by decide, Or.inl q1397, rfl⟩
theorem pX5_121 : aw_Pl RX5 121 5 60 "<init>" (.array .int) := ⟨RX5, TX5, 69, "SoManyStairsModel", tyX5, rfl, in_X5, by decide, Or.inl q1397, rfl, tyX5_ok, nmX5, Or.inr ⟨rfl, rfl, rfl⟩, rfl⟩
theorem fX5_124 : aw_Fl RX5 124 5 61 := ⟨RX5, TX5, 69, "SoManyStairsModel", rfl, in_X5, by decide, Or.inl q1398, rfl⟩
theorem pX5_124 : aw_Pl RX5 124 5 61 "<init>" (.array .int) := ⟨RX5, TX5, 69, "SoManyStairsModel", tyX5, rfl, in_X5, by decide, Or.inl q1398, rfl, tyX5_ok, nmX5, Or.inr ⟨rfl, rfl, rfl⟩, rfl⟩
theorem fX5_127 : aw_Fl RX5 127 5 62 := ⟨RX5, TX5, 69, "SoManyStairsModel", rfl, in_X5, by decide, Or.inl q1399, rfl⟩
theorem pX5_127 : aw_Pl RX5 127 5 62 "<init>" (.array .int) := ⟨RX5, TX5, 69, "SoManyStairsModel", tyX5, rfl, in_X5, by decide, Or.inl q1399, rfl, tyX5_ok, nmX5, Or.inr ⟨rfl, rfl, rfl⟩, rfl⟩
theorem fX5_130 : aw_Fl RX5 130 5 63 := ⟨RX5, TX5, 69, "SoManyStairsModel", rfl, in_X5, by decide, Or.inl q1400, rfl⟩
theorem pX5_130 : aw_Pl RX5 130 5 63 "<init>" (.array .boolean) := ⟨RX5, TX5, 69, "SoManyStairsModel", tyX5, rfl, in_X5, by decide, Or.inl q1400, rfl, tyX5_ok, nmX5, Or.inr ⟨rfl, rfl, rfl⟩, rfl⟩
theorem fX5_133 : aw_Fl RX5 133 5 66 := ⟨RX5, TX5, 69, "SoManyStairsModel", rfl, in_X5, by decide, Or.inl q1403, rfl⟩
theorem pX5_133 : aw_Pl RX5 133 5 66 "<init>" (.array .int) := ⟨RX5, TX5, 69, "SoManyStairsModel", tyX5, rfl, in_X5, by decide, Or.inl q1403, rfl, tyX5_ok, nmX5, Or.inr ⟨rfl, rfl, rfl⟩, rfl⟩
theorem fX5_136 : aw_Fl RX5 136 5 67 := ⟨RX5, TX5, 69, "SoManyStairsModel", rfl, in_X5, by decide, Or.inl q1404, rfl⟩
theorem pX5_136 : aw_Pl RX5 136 5 67 "<init>" (.array .boolean) := ⟨RX5, TX5, 69, "SoManyStairsModel", tyX5, rfl, in_X5, by decide, Or.inl q1404, rfl, tyX5_ok, nmX5, Or.inr ⟨rfl, rfl, rfl⟩, rfl⟩
theorem fX5_139 : aw_Fl RX5 139 5 68 := ⟨RX5, TX5, 69, "SoManyStairsModel", rfl, in_X5, by decide, Or.inl q1405, rfl⟩
theorem pX5_139 : aw_Pl RX5 139 5 68 "<init>" (.array .int) := ⟨RX5, TX5, 69, "SoManyStairsModel", tyX5, rfl, in_X5, by decide, Or.inl q1405, rfl, tyX5_ok, nmX5, Or.inr ⟨rfl, rfl, rfl⟩, rfl⟩
theorem fX5_142 : aw_Fl RX5 142 5 1 := ⟨RX5, TX5, 69, "SoManyStairsModel", rfl, in_X5, by decide, Or.inl q1338, rfl⟩
theorem pX5_142 (nm : String) : aw_Pl RX5 142 5 1 nm (.int) := ⟨RX5, TX5, 69, "SoManyStairsModel", tyX5, rfl, in_X5, by decide, Or.inl q1338, rfl, tyX5_ok, nmX5, Or.inl rfl, rfl⟩
theorem sX5_145 : aw_SV RX5 145 yX5_four cX5_four 3 none 1 5 := ⟨lw_V q1551 q1553 qs55 q130 q1554, by decide +kernel, TX5, 69, rfl⟩
theorem fX5_149 : aw_Fl RX5 149 5 4 := ⟨RX5, TX5, 69, "SoManyStairsModel", rfl, in_X5, by decide, Or.inl q1341, rfl⟩
theorem pX5_149 (nm : String) : aw_Pl RX5 149 5 4 nm (.int) := ⟨RX5, TX5, 69, "SoManyStairsModel", tyX5, rfl, in_X5, by decide, Or.inl q1341, rfl, tyX5_ok, nmX5, Or.inl rfl, rfl⟩
theorem fX5_152 : aw_Fl RX5 152 5 5 := ⟨RX5, TX5, 69, "SoManyStairsModel", rfl, in_X5, by decide, Or.inl q1342, rfl⟩
theorem pX5_152 (nm : String) : aw_Pl RX5 152 5 5 nm (.int) := ⟨RX5, TX5, 69, "SoManyStairsModel", tyX5, rfl, in_X5, by decide, Or.inl q1342, rfl, tyX5_ok, nmX5, Or.inl rfl, rfl⟩
theorem sX5_155 : aw_SV RX5 155 yX5_here cX5_here 2 (some .int) 1 5 := ⟨lw_V q1571 q1573 qs58 q130 q1574, by decide +kernel, TX5, 69, rfl⟩
theorem fX5_159 : aw_Fl RX5 159 5 7 := ⟨RX5, TX5, 69, "SoManyStairsModel", rfl, in_X5, by decide, Or.inl q1344, rfl⟩
theorem pX5_159 (nm : String) : aw_Pl RX5 159 5 7 nm (.int) := ⟨RX5, TX5, 69, "SoManyStairsModel", tyX5, rfl, in_X5, by decide, Or.inl q1344, rfl, tyX5_ok, nmX5, Or.inl rfl, rfl⟩
theorem fX5_162 : aw_Fl RX5 162 5 9 := ⟨RX5, TX5, 69, "SoManyStairsModel", rfl, in_X5, by decide, Or.inl q1346, rfl⟩
theorem pX5_162 (nm : String) : aw_Pl RX5 162 5 9 nm (.long) := ⟨RX5, TX5, 69, "SoManyStairsModel", tyX5, rfl, in_X5, by decide, Or.inl q1346, rfl, tyX5_ok, nmX5, Or.inl rfl, rfl⟩
theorem fX5_166 : aw_Fl RX5 166 5 8 := ⟨RX5, TX5, 69, "SoManyStairsModel", rfl, in_X5, by decide, Or.inl q1345, rfl⟩
theorem pX5_166 (nm : String) : aw_Pl RX5 166 5 8 nm (.int) := ⟨RX5, TX5, 69, "SoManyStairsModel", tyX5, rfl, in_X5, by decide, Or.inl q1345, rfl, tyX5_ok, nmX5, Or.inl rfl, rfl⟩
theorem fX5_169 : aw_Fl RX5 169 5 6 := ⟨RX5, TX5, 69, "SoManyStairsModel", rfl, in_X5, by decide, Or.inl q1343, rfl⟩
theorem pX5_169 (nm : String) : aw_Pl RX5 169 5 6 nm (.int) := ⟨RX5, TX5, 69, "SoManyStairsModel", tyX5, rfl, in_X5, by decide, Or.inl q1343, rfl, tyX5_ok, nmX5, Or.inl rfl, rfl⟩
theorem sX5_172 : aw_SS RX5 172 yX5_isLetter cX5_isLetter 1 (some .boolean) 1 := ⟨lw_S q1575 q1576 q130 q1577, by decide +kernel⟩
theorem sX5_176 : aw_SS RX5 176 yX5_isDigit cX5_isDigit 1 (some .boolean) 1 := ⟨lw_S q1578 q1579 q130 q1580, by decide +kernel⟩
theorem sX5_179 : aw_SS RX5 179 yX5_isSign cX5_isSign 1 (some .boolean) 1 := ⟨lw_S q1581 q1582 q130 q1583, by decide +kernel⟩
theorem fX5_182 : aw_Fl RX5 182 5 2 := ⟨RX5, TX5, 69, "SoManyStairsModel", rfl, in_X5, by decide, Or.inl q1339, rfl⟩
theorem pX5_182 (nm : String) : aw_Pl RX5 182 5 2 nm (.int) := ⟨RX5, TX5, 69, "SoManyStairsModel", tyX5, rfl, in_X5, by decide, Or.inl q1339, rfl, tyX5_ok, nmX5, Or.inl rfl, rfl⟩
theorem sX5_219 : aw_SV RX5 219 yX5_isOwn cX5_isOwn 1 (some .boolean) 0 5 := ⟨lw_V q1631 q1633 qs70 q130 q1634, by decide +kernel, TX5, 69, rfl⟩
theorem sX5_223 : aw_SV RX5 223 yX5_isWord cX5_isWord 3 (some .boolean) 1 5 := ⟨lw_V q1589 q1591 qs60 q130 q1592, by decide +kernel, TX5, 69, rfl⟩
theorem sX5_227 : aw_SV RX5 227 yX5_wrong cX5_wrong 2 none 1 5 := ⟨lw_V q1601 q1603 qs63 q130 q1604, by decide +kernel, TX5, 69, rfl⟩
theorem sX5_230 : aw_SV RX5 230 yX5_token cX5_token 3 none 0 5 := ⟨lw_V q1567 q1569 qs57 q130 q1570, by decide +kernel, TX5, 69, rfl⟩
theorem sX5_233 : aw_SV RX5 233 yX5_want cX5_want 3 none 1 5 := ⟨lw_V q1614 q1616 qs66 q130 q1617, by decide +kernel, TX5, 69, rfl⟩
theorem sX5_237 : aw_SV RX5 237 yX5_toldNumber cX5_toldNumber 4 (some .int) 2 5 := ⟨lw_V q1597 q1599 qs62 q130 q1600, by decide +kernel, TX5, 69, rfl⟩
theorem sX5_241 : aw_SV RX5 241 yX5_told cX5_told 5 (some .int) 3 5 := ⟨lw_V q1610 q1612 qs65 q130 q1613, by decide +kernel, TX5, 69, rfl⟩
theorem sX5_245 : aw_SV RX5 245 yX5_isName cX5_isName 1 (some .boolean) 0 5 := ⟨lw_V q1627 q1629 qs69 q130 q1630, by decide +kernel, TX5, 69, rfl⟩
theorem fX5_248 : aw_Fl RX5 248 5 39 := ⟨RX5, TX5, 69, "SoManyStairsModel", rfl, in_X5, by decide, Or.inl q1376, rfl⟩
theorem pX5_248 (nm : String) : aw_Pl RX5 248 5 39 nm (.int) := ⟨RX5, TX5, 69, "SoManyStairsModel", tyX5, rfl, in_X5, by decide, Or.inl q1376, rfl, tyX5_ok, nmX5, Or.inl rfl, rfl⟩
theorem fX5_251 : aw_Fl RX5 251 5 20 := ⟨RX5, TX5, 69, "SoManyStairsModel", rfl, in_X5, by decide, Or.inl q1357, rfl⟩
theorem pX5_251 (nm : String) : aw_Pl RX5 251 5 20 nm (.int) := ⟨RX5, TX5, 69, "SoManyStairsModel", tyX5, rfl, in_X5, by decide, Or.inl q1357, rfl, tyX5_ok, nmX5, Or.inl rfl, rfl⟩
theorem fX5_254 : aw_Fl RX5 254 5 21 := ⟨RX5, TX5, 69, "SoManyStairsModel", rfl, in_X5, by decide, Or.inl q1358, rfl⟩
theorem pX5_254 (nm : String) : aw_Pl RX5 254 5 21 nm (.int) := ⟨RX5, TX5, 69, "SoManyStairsModel", tyX5, rfl, in_X5, by decide, Or.inl q1358, rfl, tyX5_ok, nmX5, Or.inl rfl, rfl⟩
theorem sX5_257 : aw_SS RX5 257 yX5_tight cX5_tight 1 (some .int) 1 := ⟨lw_S q1661 q1662 q130 q1663, by decide +kernel⟩
theorem sX5_260 : aw_SV RX5 260 yX5_add cX5_add 3 none 2 5 := ⟨lw_V q1680 q1682 qs78 q130 q1683, by decide +kernel, TX5, 69, rfl⟩
theorem fX5_264 : aw_Fl RX5 264 5 25 := ⟨RX5, TX5, 69, "SoManyStairsModel", rfl, in_X5, by decide, Or.inl q1362, rfl⟩
theorem pX5_264 (nm : String) : aw_Pl RX5 264 5 25 nm (.int) := ⟨RX5, TX5, 69, "SoManyStairsModel", tyX5, rfl, in_X5, by decide, Or.inl q1362, rfl, tyX5_ok, nmX5, Or.inl rfl, rfl⟩
theorem fX5_267 : aw_Fl RX5 267 5 22 := ⟨RX5, TX5, 69, "SoManyStairsModel", rfl, in_X5, by decide, Or.inl q1359, rfl⟩
theorem pX5_267 (nm : String) : aw_Pl RX5 267 5 22 nm (.int) := ⟨RX5, TX5, 69, "SoManyStairsModel", tyX5, rfl, in_X5, by decide, Or.inl q1359, rfl, tyX5_ok, nmX5, Or.inl rfl, rfl⟩
theorem fX5_270 : aw_Fl RX5 270 5 24 := ⟨RX5, TX5, 69, "SoManyStairsModel", rfl, in_X5, by decide, Or.inl q1361, rfl⟩
theorem pX5_270 (nm : String) : aw_Pl RX5 270 5 24 nm (.int) := ⟨RX5, TX5, 69, "SoManyStairsModel", tyX5, rfl, in_X5, by decide, Or.inl q1361, rfl, tyX5_ok, nmX5, Or.inl rfl, rfl⟩
theorem sX5_273 : aw_SV RX5 273 yX5_mayNot cX5_mayNot 1 (some .boolean) 0 5 := ⟨lw_V q1657 q1659 qs73 q130 q1660, by decide +kernel, TX5, 69, rfl⟩
theorem sX5_276 : aw_SV RX5 276 yX5_openUp cX5_openUp 2 none 1 5 := ⟨lw_V q1664 q1666 qs74 q130 q1667, by decide +kernel, TX5, 69, rfl⟩
theorem sX5_279 : aw_SV RX5 279 yX5_isFull cX5_isFull 1 (some .boolean) 0 5 := ⟨lw_V q1668 q1670 qs75 q130 q1671, by decide +kernel, TX5, 69, rfl⟩
theorem sX5_282 : aw_SV RX5 282 yX5_countUnit cX5_countUnit 1 none 0 5 := ⟨lw_V q1672 q1674 qs76 q130 q1675, by decide +kernel, TX5, 69, rfl⟩
theorem sX5_285 : aw_SV RX5 285 yX5_asked cX5_asked 1 (some .int) 0 5 := ⟨lw_V q1676 q1678 qs77 q130 q1679, by decide +kernel, TX5, 69, rfl⟩
theorem sX5_289 : aw_SV RX5 289 yX5_unit cX5_unit 3 none 0 5 := ⟨lw_V q1653 q1655 qs72 q130 q1656, by decide +kernel, TX5, 69, rfl⟩
theorem sX5_292 : aw_SV RX5 292 yX5_sign cX5_sign 1 (some .int) 0 5 := ⟨lw_V q1684 q1686 qs79 q130 q1687, by decide +kernel, TX5, 69, rfl⟩
theorem sX5_295 : aw_SV RX5 295 yX5_hasBracket cX5_hasBracket 3 (some .boolean) 0 5 := ⟨lw_V q1688 q1690 qs80 q130 q1691, by decide +kernel, TX5, 69, rfl⟩
theorem sX5_298 : aw_SV RX5 298 yX5_close cX5_close 2 none 1 5 := ⟨lw_V q1692 q1694 qs81 q130 q1695, by decide +kernel, TX5, 69, rfl⟩
theorem sX5_301 : aw_SV RX5 301 yX5_hasRelation cX5_hasRelation 2 (some .boolean) 0 5 := ⟨lw_V q1696 q1698 qs82 q130 q1699, by decide +kernel, TX5, 69, rfl⟩
theorem sX5_304 : aw_SS RX5 304 yX5_truth cX5_truth 1 (some .int) 1 := ⟨lw_S q1747 q1748 q130 q1749, by decide +kernel⟩
theorem sX5_308 : aw_SS RX5 308 yX5_done cX5_done 3 (some .int) 3 := ⟨lw_S q1750 q1751 q130 q1752, by decide +kernel⟩
theorem fX5_312 : aw_Fl RX5 312 5 37 := ⟨RX5, TX5, 69, "SoManyStairsModel", rfl, in_X5, by decide, Or.inl q1374, rfl⟩
theorem pX5_312 (nm : String) : aw_Pl RX5 312 5 37 nm (.int) := ⟨RX5, TX5, 69, "SoManyStairsModel", tyX5, rfl, in_X5, by decide, Or.inl q1374, rfl, tyX5_ok, nmX5, Or.inl rfl, rfl⟩
theorem sX5_315 : aw_SV RX5 315 yX5_option cX5_option 4 (some .int) 2 5 := ⟨lw_V q1606 q1608 qs64 q130 q1609, by decide +kernel, TX5, 69, rfl⟩
theorem fX5_319 : aw_Fl RX5 319 5 38 := ⟨RX5, TX5, 69, "SoManyStairsModel", rfl, in_X5, by decide, Or.inl q1375, rfl⟩
theorem pX5_319 (nm : String) : aw_Pl RX5 319 5 38 nm (.int) := ⟨RX5, TX5, 69, "SoManyStairsModel", tyX5, rfl, in_X5, by decide, Or.inl q1375, rfl, tyX5_ok, nmX5, Or.inl rfl, rfl⟩
theorem sX5_322 : aw_SV RX5 322 yX5_newName cX5_newName 2 none 0 5 := ⟨lw_V q1623 q1625 qs68 q130 q1626, by decide +kernel, TX5, 69, rfl⟩
theorem fX5_325 : aw_Fl RX5 325 5 43 := ⟨RX5, TX5, 69, "SoManyStairsModel", rfl, in_X5, by decide, Or.inl q1380, rfl⟩
theorem pX5_325 (nm : String) : aw_Pl RX5 325 5 43 nm (.boolean) := ⟨RX5, TX5, 69, "SoManyStairsModel", tyX5, rfl, in_X5, by decide, Or.inl q1380, rfl, tyX5_ok, nmX5, Or.inl rfl, rfl⟩
theorem sX5_329 : aw_SV RX5 329 yX5_readStoreys cX5_readStoreys 1 none 0 5 := ⟨lw_V q1593 q1595 qs61 q130 q1596, by decide +kernel, TX5, 69, rfl⟩
theorem sX5_332 : aw_SV RX5 332 yX5_readTenant cX5_readTenant 2 none 0 5 := ⟨lw_V q1619 q1621 qs67 q130 q1622, by decide +kernel, TX5, 69, rfl⟩
theorem sX5_335 : aw_SV RX5 335 yX5_formula cX5_formula 4 none 1 5 := ⟨lw_V q1649 q1651 qs71 q130 q1652, by decide +kernel, TX5, 69, rfl⟩
theorem fX5_338 : aw_Fl RX5 338 5 44 := ⟨RX5, TX5, 69, "SoManyStairsModel", rfl, in_X5, by decide, Or.inl q1381, rfl⟩
theorem pX5_338 (nm : String) : aw_Pl RX5 338 5 44 nm (.boolean) := ⟨RX5, TX5, 69, "SoManyStairsModel", tyX5, rfl, in_X5, by decide, Or.inl q1381, rfl, tyX5_ok, nmX5, Or.inl rfl, rfl⟩
theorem fX5_341 : aw_Fl RX5 341 5 40 := ⟨RX5, TX5, 69, "SoManyStairsModel", rfl, in_X5, by decide, Or.inl q1377, rfl⟩
theorem pX5_341 (nm : String) : aw_Pl RX5 341 5 40 nm (.int) := ⟨RX5, TX5, 69, "SoManyStairsModel", tyX5, rfl, in_X5, by decide, Or.inl q1377, rfl, tyX5_ok, nmX5, Or.inl rfl, rfl⟩
theorem sX5_344 : aw_SV RX5 344 yX5_readLine cX5_readLine 1 none 0 5 := ⟨lw_V q1584 q1586 qs59 q130 q1587, by decide +kernel, TX5, 69, rfl⟩
theorem sX5_347 : aw_SV RX5 347 yX5_readAll cX5_readAll 1 none 0 5 := ⟨lw_V q1563 q1565 qs56 q130 q1566, by decide +kernel, TX5, 69, rfl⟩
theorem fX5_350 : aw_Fl RX5 350 5 42 := ⟨RX5, TX5, 69, "SoManyStairsModel", rfl, in_X5, by decide, Or.inl q1379, rfl⟩
theorem pX5_350 (nm : String) : aw_Pl RX5 350 5 42 nm (.int) := ⟨RX5, TX5, 69, "SoManyStairsModel", tyX5, rfl, in_X5, by decide, Or.inl q1379, rfl, tyX5_ok, nmX5, Or.inl rfl, rfl⟩
theorem fX5_353 : aw_Fl RX5 353 5 23 := ⟨RX5, TX5, 69, "SoManyStairsModel", rfl, in_X5, by decide, Or.inl q1360, rfl⟩
theorem pX5_353 (nm : String) : aw_Pl RX5 353 5 23 nm (.int) := ⟨RX5, TX5, 69, "SoManyStairsModel", tyX5, rfl, in_X5, by decide, Or.inl q1360, rfl, tyX5_ok, nmX5, Or.inl rfl, rfl⟩
theorem fX5_356 : aw_Fl RX5 356 5 48 := ⟨RX5, TX5, 69, "SoManyStairsModel", rfl, in_X5, by decide, Or.inl q1385, rfl⟩
theorem pX5_356 (nm : String) : aw_Pl RX5 356 5 48 nm (.int) := ⟨RX5, TX5, 69, "SoManyStairsModel", tyX5, rfl, in_X5, by decide, Or.inl q1385, rfl, tyX5_ok, nmX5, Or.inl rfl, rfl⟩
theorem fX5_359 : aw_Fl RX5 359 5 49 := ⟨RX5, TX5, 69, "SoManyStairsModel", rfl, in_X5, by decide, Or.inl q1386, rfl⟩
theorem pX5_359 (nm : String) : aw_Pl RX5 359 5 49 nm (.int) := ⟨RX5, TX5, 69, "SoManyStairsModel", tyX5, rfl, in_X5, by decide, Or.inl q1386, rfl, tyX5_ok, nmX5, Or.inl rfl, rfl⟩
theorem fX5_362 : aw_Fl RX5 362 5 64 := ⟨RX5, TX5, 69, "SoManyStairsModel", rfl, in_X5, by decide, Or.inl q1401, rfl⟩
theorem pX5_362 (nm : String) : aw_Pl RX5 362 5 64 nm (.int) := ⟨RX5, TX5, 69, "SoManyStairsModel", tyX5, rfl, in_X5, by decide, Or.inl q1401, rfl, tyX5_ok, nmX5, Or.inl rfl, rfl⟩
theorem fX5_365 : aw_Fl RX5 365 5 52 := ⟨RX5, TX5, 69, "SoManyStairsModel", rfl, in_X5, by decide, Or.inl q1389, rfl⟩
theorem pX5_365 (nm : String) : aw_Pl RX5 365 5 52 nm (.int) := ⟨RX5, TX5, 69, "SoManyStairsModel", tyX5, rfl, in_X5, by decide, Or.inl q1389, rfl, tyX5_ok, nmX5, Or.inl rfl, rfl⟩
theorem sX5_368 : aw_SS RX5 368 yX5_isIn cX5_isIn 3 (some .boolean) 3 := ⟨lw_S q1712 q1713 q130 q1714, by decide +kernel⟩
theorem sX5_372 : aw_SV RX5 372 yX5_dueOf cX5_dueOf 2 (some .int) 1 5 := ⟨lw_V q1723 q1725 qs86 q130 q1726, by decide +kernel, TX5, 69, rfl⟩
theorem sX5_375 : aw_SV RX5 375 yX5_worked cX5_worked 8 (some .int) 5 5 := ⟨lw_V q1743 q1745 qs90 q130 q1746, by decide +kernel, TX5, 69, rfl⟩
theorem sX5_379 : aw_SS RX5 379 yX5_within cX5_within 2 (some .int) 2 := ⟨lw_S q1753 q1754 q130 q1755, by decide +kernel⟩
theorem sX5_382 : aw_SV RX5 382 yX5_isTenant cX5_isTenant 2 (some .boolean) 1 5 := ⟨lw_V q1708 q1710 qs83 q130 q1711, by decide +kernel, TX5, 69, rfl⟩
theorem sX5_385 : aw_SV RX5 385 yX5_breathFor cX5_breathFor 3 (some .int) 2 5 := ⟨lw_V q1735 q1737 qs88 q130 q1738, by decide +kernel, TX5, 69, rfl⟩
theorem sX5_388 : aw_SV RX5 388 yX5_allHeavy cX5_allHeavy 3 (some .int) 0 5 := ⟨lw_V q1788 q1790 qs96 q130 q1791, by decide +kernel, TX5, 69, rfl⟩
theorem sX5_391 : aw_SV RX5 391 yX5_pullHere cX5_pullHere 1 (some .int) 0 5 := ⟨lw_V q1784 q1786 qs95 q130 q1787, by decide +kernel, TX5, 69, rfl⟩
theorem sX5_394 : aw_SV RX5 394 yX5_load cX5_load 2 none 0 5 := ⟨lw_V q1715 q1717 qs84 q130 q1718, by decide +kernel, TX5, 69, rfl⟩
theorem sX5_397 : aw_SV RX5 397 yX5_lackOf cX5_lackOf 2 (some .int) 1 5 := ⟨lw_V q1719 q1721 qs85 q130 q1722, by decide +kernel, TX5, 69, rfl⟩
theorem sX5_400 : aw_SV RX5 400 yX5_canClimb cX5_canClimb 5 (some .boolean) 4 5 := ⟨lw_V q1731 q1733 qs87 q130 q1734, by decide +kernel, TX5, 69, rfl⟩
theorem sX5_404 : aw_SV RX5 404 yX5_countOf cX5_countOf 4 (some .int) 3 5 := ⟨lw_V q1739 q1741 qs89 q130 q1742, by decide +kernel, TX5, 69, rfl⟩
theorem sX5_407 : aw_SV RX5 407 yX5_act cX5_act 2 none 0 5 := ⟨lw_V q1760 q1762 qs91 q130 q1763, by decide +kernel, TX5, 69, rfl⟩
theorem sX5_410 : aw_SV RX5 410 yX5_goClimb cX5_goClimb 5 none 4 5 := ⟨lw_V q1764 q1766 qs92 q130 q1767, by decide +kernel, TX5, 69, rfl⟩
theorem sX5_414 : aw_SV RX5 414 yX5_keepAir cX5_keepAir 2 none 0 5 := ⟨lw_V q1768 q1770 qs93 q130 q1771, by decide +kernel, TX5, 69, rfl⟩
theorem sX5_417 : aw_SV RX5 417 yX5_goWeek cX5_goWeek 3 none 0 5 := ⟨lw_V q1780 q1782 qs94 q130 q1783, by decide +kernel, TX5, 69, rfl⟩
theorem sX5_420 : aw_SV RX5 420 yX5_exchange cX5_exchange 4 none 1 5 := ⟨lw_V q1796 q1798 qs97 q130 q1799, by decide +kernel, TX5, 69, rfl⟩
theorem sX5_424 : aw_SS RX5 424 yX5_power cX5_power 4 (some .int) 2 := ⟨lw_S q1809 q1810 q130 q1811, by decide +kernel⟩
theorem sX5_427 : aw_SV RX5 427 yX5_paidBy cX5_paidBy 7 (some .int) 3 5 := ⟨lw_V q1812 q1814 qs98 q130 q1815, by decide +kernel, TX5, 69, rfl⟩
theorem sX5_430 : aw_SV RX5 430 yX5_carriesOf cX5_carriesOf 5 (some .int) 2 5 := ⟨lw_V q1820 q1822 qs99 q130 q1823, by decide +kernel, TX5, 69, rfl⟩
theorem sX5_433 : aw_SS RX5 433 yX5_isMore cX5_isMore 4 (some .boolean) 4 := ⟨lw_S q1832 q1833 q130 q1834, by decide +kernel⟩
theorem sX5_436 : aw_SV RX5 436 yX5_layDoers cX5_layDoers 6 none 0 5 := ⟨lw_V q1828 q1830 qs100 q130 q1831, by decide +kernel, TX5, 69, rfl⟩
theorem sX5_439 : aw_SV RX5 439 yX5_putDoers cX5_putDoers 5 none 0 5 := ⟨lw_V q1835 q1837 qs101 q130 q1838, by decide +kernel, TX5, 69, rfl⟩
theorem sX5_442 : aw_SV RX5 442 yX5_storeysFor cX5_storeysFor 3 (some .int) 1 5 := ⟨lw_V q1847 q1849 qs103 q130 q1850, by decide +kernel, TX5, 69, rfl⟩
theorem sX5_445 : aw_SV RX5 445 yX5_layProxy cX5_layProxy 4 none 0 5 := ⟨lw_V q1843 q1845 qs102 q130 q1846, by decide +kernel, TX5, 69, rfl⟩
theorem sX5_448 : aw_SV RX5 448 yX5_giver cX5_giver 2 (some .int) 0 5 := ⟨lw_V q1859 q1861 qs104 q130 q1862, by decide +kernel, TX5, 69, rfl⟩
theorem sX5_451 : aw_SV RX5 451 yX5_taker cX5_taker 2 (some .int) 0 5 := ⟨lw_V q1863 q1865 qs105 q130 q1866, by decide +kernel, TX5, 69, rfl⟩
theorem sX5_454 : aw_SV RX5 454 yX5_isEnvied cX5_isEnvied 3 (some .boolean) 2 5 := ⟨lw_V q1875 q1877 qs107 q130 q1878, by decide +kernel, TX5, 69, rfl⟩
theorem sX5_458 : aw_SV RX5 458 yX5_layHomes cX5_layHomes 2 none 0 5 := ⟨lw_V q1871 q1873 qs106 q130 q1874, by decide +kernel, TX5, 69, rfl⟩
theorem sX5_461 : aw_SV RX5 461 yX5_allEnvies cX5_allEnvies 4 (some .int) 0 5 := ⟨lw_V q1883 q1885 qs108 q130 q1886, by decide +kernel, TX5, 69, rfl⟩
theorem sX5_464 : aw_SV RX5 464 yX5_changeHomes cX5_changeHomes 4 none 2 5 := ⟨lw_V q1891 q1893 qs109 q130 q1894, by decide +kernel, TX5, 69, rfl⟩
theorem sX5_467 : aw_SV RX5 467 yX5_monthOf cX5_monthOf 2 (some .int) 1 5 := ⟨lw_V q1903 q1905 qs111 q130 q1906, by decide +kernel, TX5, 69, rfl⟩
theorem sX5_470 : aw_SV RX5 470 yX5_uneven cX5_uneven 4 (some .int) 0 5 := ⟨lw_V q1899 q1901 qs110 q130 q1902, by decide +kernel, TX5, 69, rfl⟩
theorem sX5_473 : aw_SV RX5 473 yX5_nextHomes cX5_nextHomes 5 (some .boolean) 0 5 := ⟨lw_V q1907 q1909 qs112 q130 q1910, by decide +kernel, TX5, 69, rfl⟩
theorem sX5_476 : aw_SV RX5 476 yX5_goFar cX5_goFar 3 none 1 5 := ⟨lw_V q1931 q1933 qs113 q130 q1934, by decide +kernel, TX5, 69, rfl⟩
theorem sX5_479 : aw_SS RX5 479 yX5_members cX5_members 3 (some .int) 1 := ⟨lw_S q1959 q1960 q130 q1961, by decide +kernel⟩
theorem sX5_482 : aw_SS RX5 482 yX5_divisor cX5_divisor 5 (some .int) 2 := ⟨lw_S q1962 q1963 q130 q1964, by decide +kernel⟩
theorem fX5_485 : aw_Fl RX5 485 5 65 := ⟨RX5, TX5, 69, "SoManyStairsModel", rfl, in_X5, by decide, Or.inl q1402, rfl⟩
theorem pX5_485 (nm : String) : aw_Pl RX5 485 5 65 nm (.int) := ⟨RX5, TX5, 69, "SoManyStairsModel", tyX5, rfl, in_X5, by decide, Or.inl q1402, rfl, tyX5_ok, nmX5, Or.inl rfl, rfl⟩
theorem sX5_488 : aw_SV RX5 488 yX5_mark cX5_mark 4 (some .int) 3 5 := ⟨lw_V q1997 q1999 qs114 q130 q2000, by decide +kernel, TX5, 69, rfl⟩
theorem sX5_493 : aw_SV RX5 493 yX5_isRun cX5_isRun 8 (some .boolean) 4 5 := ⟨lw_V q2022 q2024 qs116 q130 q2025, by decide +kernel, TX5, 69, rfl⟩
theorem sX5_496 : aw_SV RX5 496 yX5_runsOf cX5_runsOf 6 (some .int) 2 5 := ⟨lw_V q2018 q2020 qs115 q130 q2021, by decide +kernel, TX5, 69, rfl⟩
theorem sX5_499 : aw_SS RX5 499 yX5_isBox cX5_isBox 1 (some .boolean) 1 := ⟨lw_S q2038 q2039 q130 q2040, by decide +kernel⟩
theorem nX6_9 : aw_Nl RX6 9 1 10 [.null, .null, .null, .int 0, .int 0, .int 0, .int 0, .int 0, .int 0, .null] := ⟨RX1, TX1, tyX1, rfl, in_X1, tyX1_ok, q468, q159, q119, by decide +kernel⟩
theorem sX6_11 : aw_SIN RX6 11 yX1_init cX1_init 1 0 "SoManyStairs" := ⟨q162, List.mem_of_getElem? (i := 9) rfl, q161, q119, rfl, by decide +kernel⟩
theorem fX6_12 : aw_Fl RX6 12 6 3 := ⟨RX6, TX6, 11, "SoManyStairs$Reader", rfl, in_X6, by decide, Or.inl q473, rfl⟩
theorem pX6_12 : aw_Pl RX6 12 6 3 "<init>" (.object "SoManyStairs$House") := ⟨RX6, TX6, 11, "SoManyStairs$Reader", tyX6, rfl, in_X6, by decide, Or.inl q473, rfl, tyX6_ok, nmX6, Or.inr ⟨rfl, rfl, rfl⟩, rfl⟩
theorem fX6_18 : aw_Fl RX6 18 6 0 := ⟨RX6, TX6, 11, "SoManyStairs$Reader", rfl, in_X6, by decide, Or.inl q470, rfl⟩
theorem pX6_18 : aw_Pl RX6 18 6 0 "<init>" (.array .byte) := ⟨RX6, TX6, 11, "SoManyStairs$Reader", tyX6, rfl, in_X6, by decide, Or.inl q470, rfl, tyX6_ok, nmX6, Or.inr ⟨rfl, rfl, rfl⟩, rfl⟩
theorem fX6_22 : aw_Fl RX6 22 6 1 := ⟨RX6, TX6, 11, "SoManyStairs$Reader", rfl, in_X6, by decide, Or.inl q471, rfl⟩
theorem pX6_22 : aw_Pl RX6 22 6 1 "<init>" (.int) := ⟨RX6, TX6, 11, "SoManyStairs$Reader", tyX6, rfl, in_X6, by decide, Or.inl q471, rfl, tyX6_ok, nmX6, Or.inr ⟨rfl, rfl, rfl⟩, rfl⟩
theorem fX6_26 : aw_Fl RX6 26 6 2 := ⟨RX6, TX6, 11, "SoManyStairs$Reader", rfl, in_X6, by decide, Or.inl q472, rfl⟩
theorem pX6_26 : aw_Pl RX6 26 6 2 "<init>" (.object "SoManyStairs$Wrong") := ⟨RX6, TX6, 11, "SoManyStairs$Reader", tyX6, rfl, in_X6, by decide, Or.inl q472, rfl, tyX6_ok, nmX6, Or.inr ⟨rfl, rfl, rfl⟩, rfl⟩
theorem fX6_30 : aw_Fl RX6 30 6 5 := ⟨RX6, TX6, 11, "SoManyStairs$Reader", rfl, in_X6, by decide, Or.inl q475, rfl⟩
theorem pX6_30 (nm : String) : aw_Pl RX6 30 6 5 nm (.int) := ⟨RX6, TX6, 11, "SoManyStairs$Reader", tyX6, rfl, in_X6, by decide, Or.inl q475, rfl, tyX6_ok, nmX6, Or.inl rfl, rfl⟩
theorem fX6_33 : aw_Fl RX6 33 6 4 := ⟨RX6, TX6, 11, "SoManyStairs$Reader", rfl, in_X6, by decide, Or.inl q474, rfl⟩
theorem pX6_33 (nm : String) : aw_Pl RX6 33 6 4 nm (.int) := ⟨RX6, TX6, 11, "SoManyStairs$Reader", tyX6, rfl, in_X6, by decide, Or.inl q474, rfl, tyX6_ok, nmX6, Or.inl rfl, rfl⟩
theorem sX6_36 : aw_SV RX6 36 yX6_sign cX6_sign 2 (some .int) 1 6 := ⟨lw_V q512 q514 qs5 q131 q515, by decide +kernel, TX6, 11, rfl⟩
theorem fX6_40 : aw_Fl RX6 40 6 6 := ⟨RX6, TX6, 11, "SoManyStairs$Reader", rfl, in_X6, by decide, Or.inl q476, rfl⟩
theorem pX6_40 (nm : String) : aw_Pl RX6 40 6 6 nm (.int) := ⟨RX6, TX6, 11, "SoManyStairs$Reader", tyX6, rfl, in_X6, by decide, Or.inl q476, rfl, tyX6_ok, nmX6, Or.inl rfl, rfl⟩
theorem sX6_43 : aw_SS RX6 43 yX6_isLetter cX6_isLetter 1 (some .boolean) 1 := ⟨lw_S q516 q517 q131 q518, by decide +kernel⟩
theorem sX6_47 : aw_SV RX6 47 yX6_readWord cX6_readWord 1 none 0 6 := ⟨lw_V q519 q521 qs6 q131 q522, by decide +kernel, TX6, 11, rfl⟩
theorem sX6_50 : aw_SS RX6 50 yX6_isDigit cX6_isDigit 1 (some .boolean) 1 := ⟨lw_S q523 q524 q131 q525, by decide +kernel⟩
theorem sX6_53 : aw_SV RX6 53 yX6_readNumber cX6_readNumber 1 none 0 6 := ⟨lw_V q526 q528 qs7 q131 q529, by decide +kernel, TX6, 11, rfl⟩
theorem sX6_56 : aw_SS RX6 56 yX6_isSign cX6_isSign 1 (some .boolean) 1 := ⟨lw_S q530 q531 q131 q532, by decide +kernel⟩
theorem fX6_59 : aw_Fl RX6 59 6 8 := ⟨RX6, TX6, 11, "SoManyStairs$Reader", rfl, in_X6, by decide, Or.inl q478, rfl⟩
theorem pX6_59 (nm : String) : aw_Pl RX6 59 6 8 nm (.long) := ⟨RX6, TX6, 11, "SoManyStairs$Reader", tyX6, rfl, in_X6, by decide, Or.inl q478, rfl, tyX6_ok, nmX6, Or.inl rfl, rfl⟩
theorem fX6_63 : aw_Fl RX6 63 6 7 := ⟨RX6, TX6, 11, "SoManyStairs$Reader", rfl, in_X6, by decide, Or.inl q477, rfl⟩
theorem pX6_63 (nm : String) : aw_Pl RX6 63 6 7 nm (.int) := ⟨RX6, TX6, 11, "SoManyStairs$Reader", tyX6, rfl, in_X6, by decide, Or.inl q477, rfl, tyX6_ok, nmX6, Or.inl rfl, rfl⟩
theorem sX6_76 : aw_SV RX6 76 yX6_isWord cX6_isWord 3 (some .boolean) 1 6 := ⟨lw_V q542 q544 qs10 q131 q545, by decide +kernel, TX6, 11, rfl⟩
theorem sX6_80 : aw_SV RX6 80 yX3_by cX3_by 3 (some (.object "SoManyStairs$Wrong")) 2 3 := ⟨lw_V q601 q602 q603 q126 q604, by decide +kernel, TX3, 8, rfl⟩
theorem sX6_86 : aw_SV RX6 86 yX6_wrong cX6_wrong 1 (some (.object "SoManyStairs$Wrong")) 0 6 := ⟨lw_V q597 q599 qs11 q131 q600, by decide +kernel, TX6, 11, rfl⟩
theorem sX6_90 : aw_SV RX6 90 yX6_next cX6_next 2 none 0 6 := ⟨lw_V q508 q510 qs4 q131 q511, by decide +kernel, TX6, 11, rfl⟩
theorem sX6_93 : aw_SV RX6 93 yX6_must cX6_must 2 none 1 6 := ⟨lw_V q713 q715 qs18 q131 q716, by decide +kernel, TX6, 11, rfl⟩
theorem sX6_97 : aw_SV RX6 97 yX6_number cX6_number 4 (some .int) 2 6 := ⟨lw_V q613 q615 qs14 q131 q616, by decide +kernel, TX6, 11, rfl⟩
theorem fX6_100 : aw_Fl RX6 100 1 6 := ⟨RX1, TX1, 10, "SoManyStairs$House", rfl, in_X1, by decide, Or.inr ⟨"SoManyStairs", List.mem_of_getElem? (i := 36) rfl⟩, rfl⟩
theorem pX6_100 (nm : String) : aw_Pl RX6 100 1 6 nm (.int) := ⟨RX1, TX1, 10, "SoManyStairs$House", tyX1, rfl, in_X1, by decide, Or.inr ⟨rfl, "SoManyStairs", List.mem_of_getElem? (i := 36) rfl⟩, rfl, tyX1_ok, nmX1, Or.inl rfl, rfl⟩
theorem sX6_105 : aw_SV RX6 105 yX6_has cX6_has 3 (some .boolean) 1 6 := ⟨lw_V q605 q607 qs12 q131 q608, by decide +kernel, TX6, 11, rfl⟩
theorem pX6_108 (nm : String) : aw_Pl RX6 108 1 7 nm (.int) := ⟨RX1, TX1, 10, "SoManyStairs$House", tyX1, rfl, in_X1, by decide, Or.inr ⟨rfl, "SoManyStairs", List.mem_of_getElem? (i := 37) rfl⟩, rfl, tyX1_ok, nmX1, Or.inl rfl, rfl⟩
theorem sX6_114 : aw_SV RX6 114 yX6_which cX6_which 3 (some .int) 1 6 := ⟨lw_V q624 q626 qs16 q131 q627, by decide +kernel, TX6, 11, rfl⟩
theorem fX6_118 : aw_Fl RX6 118 1 0 := ⟨RX1, TX1, 10, "SoManyStairs$House", rfl, in_X1, by decide, Or.inr ⟨"SoManyStairs", List.mem_of_getElem? (i := 30) rfl⟩, rfl⟩
theorem sX6_122 : aw_SV RX6 122 yJ2_iterator cJ2_iterator 1 (some (.object "java/util/Iterator")) 0 14 := ⟨lw_V q628 q629 q630 q122 q631, by decide +kernel, TJ2, 3, rfl⟩
theorem nX6_137 : aw_Nl RX6 137 7 6 [.long 0, .int 0, .int 0, .int 0, .int 0, .int 0] := ⟨RX7, TX7, tyX7, rfl, in_X7, tyX7_ok, q674, q675, q136, by decide +kernel⟩
theorem fX6_139 : aw_Fl RX6 139 7 0 := ⟨RX7, TX7, 6, "SoManyStairs$Tenant", rfl, in_X7, by decide, Or.inr ⟨"SoManyStairs", List.mem_of_getElem? (i := 39) rfl⟩, rfl⟩
theorem sX6_140 : aw_SI RX6 140 yX7_init cX7_init 3 1 := ⟨q678, q676, q677, q136, rfl, by decide +kernel⟩
theorem sX6_145 : aw_SV RX6 145 yX6_after cX6_after 4 (some .int) 3 6 := ⟨lw_V q709 q711 qs17 q131 q712, by decide +kernel, TX6, 11, rfl⟩
theorem pX6_149 (nm : String) : aw_Pl RX6 149 7 1 nm (.int) := ⟨RX7, TX7, 6, "SoManyStairs$Tenant", tyX7, rfl, in_X7, by decide, Or.inr ⟨rfl, "SoManyStairs", List.mem_of_getElem? (i := 40) rfl⟩, rfl, tyX7_ok, nmX7, Or.inl rfl, rfl⟩
theorem pX6_154 (nm : String) : aw_Pl RX6 154 7 2 nm (.int) := ⟨RX7, TX7, 6, "SoManyStairs$Tenant", tyX7, rfl, in_X7, by decide, Or.inr ⟨rfl, "SoManyStairs", List.mem_of_getElem? (i := 41) rfl⟩, rfl, tyX7_ok, nmX7, Or.inl rfl, rfl⟩
theorem pX6_158 (nm : String) : aw_Pl RX6 158 7 3 nm (.int) := ⟨RX7, TX7, 6, "SoManyStairs$Tenant", tyX7, rfl, in_X7, by decide, Or.inr ⟨rfl, "SoManyStairs", List.mem_of_getElem? (i := 42) rfl⟩, rfl, tyX7_ok, nmX7, Or.inl rfl, rfl⟩
theorem pX6_162 (nm : String) : aw_Pl RX6 162 7 4 nm (.int) := ⟨RX7, TX7, 6, "SoManyStairs$Tenant", tyX7, rfl, in_X7, by decide, Or.inr ⟨rfl, "SoManyStairs", List.mem_of_getElem? (i := 43) rfl⟩, rfl, tyX7_ok, nmX7, Or.inl rfl, rfl⟩
theorem pX6_166 (nm : String) : aw_Pl RX6 166 7 5 nm (.int) := ⟨RX7, TX7, 6, "SoManyStairs$Tenant", tyX7, rfl, in_X7, by decide, Or.inr ⟨rfl, "SoManyStairs", List.mem_of_getElem? (i := 44) rfl⟩, rfl, tyX7_ok, nmX7, Or.inl rfl, rfl⟩
theorem sX6_168 : aw_SV RX6 168 yJ2_add cJ2_add 2 (some .boolean) 1 14 := ⟨lw_V q721 q722 q723 q122 q724, by decide +kernel, TJ2, 3, rfl⟩
theorem fX6_172 : aw_Fl RX6 172 6 10 := ⟨RX6, TX6, 11, "SoManyStairs$Reader", rfl, in_X6, by decide, Or.inl q480, rfl⟩
theorem pX6_172 (nm : String) : aw_Pl RX6 172 6 10 nm (.int) := ⟨RX6, TX6, 11, "SoManyStairs$Reader", tyX6, rfl, in_X6, by decide, Or.inl q480, rfl, tyX6_ok, nmX6, Or.inl rfl, rfl⟩
theorem fX6_175 : aw_Fl RX6 175 6 9 := ⟨RX6, TX6, 11, "SoManyStairs$Reader", rfl, in_X6, by decide, Or.inl q479, rfl⟩
theorem pX6_175 (nm : String) : aw_Pl RX6 175 6 9 nm (.int) := ⟨RX6, TX6, 11, "SoManyStairs$Reader", tyX6, rfl, in_X6, by decide, Or.inl q479, rfl, tyX6_ok, nmX6, Or.inl rfl, rfl⟩
theorem sX6_178 : aw_SV RX6 178 yX6_either cX6_either 2 (some (.object "SoManyStairs$Part")) 0 6 := ⟨lw_V q788 q790 qs23 q131 q791, by decide +kernel, TX6, 11, rfl⟩
theorem sX6_182 : aw_SV RX6 182 yX6_both cX6_both 2 (some (.object "SoManyStairs$Part")) 0 6 := ⟨lw_V q792 q794 qs24 q131 q795, by decide +kernel, TX6, 11, rfl⟩
theorem nX6_187 : aw_Nl RX6 187 11 3 [.int 0, .null, .null] := ⟨RX12, TX12, tyX12, rfl, in_X12, tyX12_ok, q856, q857, q145, by decide +kernel⟩
theorem sX6_189 : aw_SI RX6 189 yX12_init cX12_init 4 3 := ⟨q860, q858, q859, q145, rfl, by decide +kernel⟩
theorem sX6_192 : aw_SV RX6 192 yX6_one cX6_one 3 (some (.object "SoManyStairs$Part")) 0 6 := ⟨lw_V q796 q798 qs25 q131 q799, by decide +kernel, TX6, 11, rfl⟩
theorem sX6_199 : aw_SV RX6 199 yX6_open cX6_open 1 none 0 6 := ⟨lw_V q801 q803 qs26 q131 q804, by decide +kernel, TX6, 11, rfl⟩
theorem nX6_202 : aw_Nl RX6 202 8 1 [.null] := ⟨RX9, TX9, tyX9, rfl, in_X9, tyX9_ok, q805, q806, q142, by decide +kernel⟩
theorem sX6_204 : aw_SI RX6 204 yX9_init cX9_init 2 1 := ⟨q809, q807, q808, q142, rfl, by decide +kernel⟩
theorem sX6_207 : aw_SV RX6 207 yX6_sum cX6_sum 3 (some (.object "SoManyStairs$Part")) 0 6 := ⟨lw_V q818 q820 qs27 q131 q821, by decide +kernel, TX6, 11, rfl⟩
theorem sX6_210 : aw_SV RX6 210 yX6_isSignHere cX6_isSignHere 2 (some .boolean) 1 6 := ⟨lw_V q830 q832 qs30 q131 q833, by decide +kernel, TX6, 11, rfl⟩
theorem sX6_213 : aw_SV RX6 213 yX6_term cX6_term 3 (some (.object "SoManyStairs$Part")) 0 6 := ⟨lw_V q822 q824 qs28 q131 q825, by decide +kernel, TX6, 11, rfl⟩
theorem sX6_216 : aw_SV RX6 216 yX6_unit cX6_unit 4 (some (.object "SoManyStairs$Part")) 0 6 := ⟨lw_V q826 q828 qs29 q131 q829, by decide +kernel, TX6, 11, rfl⟩
theorem fX6_222 : aw_Fl RX6 222 1 4 := ⟨RX1, TX1, 10, "SoManyStairs$House", rfl, in_X1, by decide, Or.inr ⟨"SoManyStairs", List.mem_of_getElem? (i := 34) rfl⟩, rfl⟩
theorem pX6_222 (nm : String) : aw_Pl RX6 222 1 4 nm (.int) := ⟨RX1, TX1, 10, "SoManyStairs$House", tyX1, rfl, in_X1, by decide, Or.inr ⟨rfl, "SoManyStairs", List.mem_of_getElem? (i := 34) rfl⟩, rfl, tyX1_ok, nmX1, Or.inl rfl, rfl⟩
theorem nX6_225 : aw_Nl RX6 225 9 1 [.int 0] := ⟨RX10, TX10, tyX10, rfl, in_X10, tyX10_ok, q836, q837, q143, by decide +kernel⟩
theorem sX6_227 : aw_SI RX6 227 yX10_init cX10_init 2 1 := ⟨q840, q838, q839, q143, rfl, by decide +kernel⟩
theorem nX6_230 : aw_Nl RX6 230 10 1 [.int 0] := ⟨RX11, TX11, tyX11, rfl, in_X11, tyX11_ok, q846, q847, q144, by decide +kernel⟩
theorem sX6_232 : aw_SI RX6 232 yX11_init cX11_init 2 1 := ⟨q850, q848, q849, q144, rfl, by decide +kernel⟩
theorem fX6_234 : aw_Fl RX6 234 1 5 := ⟨RX1, TX1, 10, "SoManyStairs$House", rfl, in_X1, by decide, Or.inr ⟨"SoManyStairs", List.mem_of_getElem? (i := 35) rfl⟩, rfl⟩
theorem pX6_234 (nm : String) : aw_Pl RX6 234 1 5 nm (.int) := ⟨RX1, TX1, 10, "SoManyStairs$House", tyX1, rfl, in_X1, by decide, Or.inr ⟨rfl, "SoManyStairs", List.mem_of_getElem? (i := 35) rfl⟩, rfl, tyX1_ok, nmX1, Or.inl rfl, rfl⟩
theorem sX6_239 : aw_SV RX6 239 yJ2_size cJ2_size 1 (some .int) 0 14 := ⟨lw_V q593 q361 q362 q122 q363, by decide +kernel, TJ2, 3, rfl⟩
theorem fX6_243 : aw_Fl RX6 243 1 1 := ⟨RX1, TX1, 10, "SoManyStairs$House", rfl, in_X1, by decide, Or.inr ⟨"SoManyStairs", List.mem_of_getElem? (i := 31) rfl⟩, rfl⟩
theorem pX6_243 (nm : String) : aw_Pl RX6 243 1 1 nm (.object "SoManyStairs$Part") := ⟨RX1, TX1, 10, "SoManyStairs$House", tyX1, rfl, in_X1, by decide, Or.inr ⟨rfl, "SoManyStairs", List.mem_of_getElem? (i := 31) rfl⟩, rfl, tyX1_ok, nmX1, Or.inl rfl, rfl⟩
theorem fX6_248 : aw_Fl RX6 248 1 2 := ⟨RX1, TX1, 10, "SoManyStairs$House", rfl, in_X1, by decide, Or.inr ⟨"SoManyStairs", List.mem_of_getElem? (i := 32) rfl⟩, rfl⟩
theorem pX6_248 (nm : String) : aw_Pl RX6 248 1 2 nm (.object "SoManyStairs$Part") := ⟨RX1, TX1, 10, "SoManyStairs$House", tyX1, rfl, in_X1, by decide, Or.inr ⟨rfl, "SoManyStairs", List.mem_of_getElem? (i := 32) rfl⟩, rfl, tyX1_ok, nmX1, Or.inl rfl, rfl⟩
theorem fX6_252 : aw_Fl RX6 252 1 3 := ⟨RX1, TX1, 10, "SoManyStairs$House", rfl, in_X1, by decide, Or.inr ⟨"SoManyStairs", List.mem_of_getElem? (i := 33) rfl⟩, rfl⟩
theorem pX6_252 (nm : String) : aw_Pl RX6 252 1 3 nm (.boolean) := ⟨RX1, TX1, 10, "SoManyStairs$House", tyX1, rfl, in_X1, by decide, Or.inr ⟨rfl, "SoManyStairs", List.mem_of_getElem? (i := 33) rfl⟩, rfl, tyX1_ok, nmX1, Or.inl rfl, rfl⟩
theorem sX6_256 : aw_SV RX6 256 yX6_canLine cX6_canLine 1 (some .boolean) 0 6 := ⟨lw_V q537 q539 qs9 q131 q540, by decide +kernel, TX6, 11, rfl⟩
theorem sX6_259 : aw_SV RX6 259 yX6_storeys cX6_storeys 1 none 0 6 := ⟨lw_V q609 q611 qs13 q131 q612, by decide +kernel, TX6, 11, rfl⟩
theorem sX6_261 : aw_SV RX6 261 yX6_tenant cX6_tenant 3 none 0 6 := ⟨lw_V q618 q620 qs15 q131 q621, by decide +kernel, TX6, 11, rfl⟩
theorem sX6_263 : aw_SV RX6 263 yX6_formula cX6_formula 1 (some (.object "SoManyStairs$Part")) 0 6 := ⟨lw_V q784 q786 qs22 q131 q787, by decide +kernel, TX6, 11, rfl⟩
theorem pX6_266 (nm : String) : aw_Pl RX6 266 1 8 nm (.int) := ⟨RX1, TX1, 10, "SoManyStairs$House", tyX1, rfl, in_X1, by decide, Or.inr ⟨rfl, "SoManyStairs", List.mem_of_getElem? (i := 38) rfl⟩, rfl, tyX1_ok, nmX1, Or.inl rfl, rfl⟩
theorem sX6_268 : aw_SV RX6 268 yX6_line cX6_line 1 none 0 6 := ⟨lw_V q533 q535 qs8 q131 q536, by decide +kernel, TX6, 11, rfl⟩
theorem pX7_7 : aw_Pl RX7 7 7 0 "<init>" (.long) := ⟨RX7, TX7, 6, "SoManyStairs$Tenant", tyX7, rfl, in_X7, by decide, Or.inl q680, rfl, tyX7_ok, nmX7, Or.inr ⟨rfl, rfl, rfl⟩, rfl⟩
theorem sX9_1 : aw_SIN RX9 1 yX8_init cX8_init 1 0 "SoManyStairs" := ⟨q812, List.mem_of_getElem? (i := 10) rfl, q811, q141, rfl, by decide +kernel⟩
theorem fX9_7 : aw_Fl RX9 7 8 0 := ⟨RX9, TX9, 1, "SoManyStairs$Not", rfl, in_X9, by decide, Or.inl q814, rfl⟩
theorem pX9_7 : aw_Pl RX9 7 8 0 "<init>" (.object "SoManyStairs$Part") := ⟨RX9, TX9, 1, "SoManyStairs$Not", tyX9, rfl, in_X9, by decide, Or.inl q814, rfl, tyX9_ok, nmX9, Or.inr ⟨rfl, rfl, rfl⟩, rfl⟩
