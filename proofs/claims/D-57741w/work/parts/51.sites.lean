/-! sites of the component and of the JDK -/
set_option maxRecDepth 100000
theorem fpX6_9_5 : xFP "FiddleRow$Peg" 9 5 0 .int := ⟨_, TX6, 3, "FiddleRow$Peg", tyX6, ⟨rfl, in_X6, tyX6_ok, nmX6⟩, by decide, rfl, rfl, Or.inl rfl, Or.inl q1336⟩
theorem fpX6_15_5 : xFP "FiddleRow$Peg" 15 5 1 .int := ⟨_, TX6, 3, "FiddleRow$Peg", tyX6, ⟨rfl, in_X6, tyX6_ok, nmX6⟩, by decide, rfl, rfl, Or.inl rfl, Or.inl q1339⟩
theorem fgX6_9_5 : xFL "FiddleRow$Peg" 9 5 0 := ⟨_, TX6, 3, "FiddleRow$Peg", rfl, by decide, in_X6, Or.inl rfl, Or.inl q1336⟩
theorem fgX6_15_5 : xFL "FiddleRow$Peg" 15 5 1 := ⟨_, TX6, 3, "FiddleRow$Peg", rfl, by decide, in_X6, Or.inl rfl, Or.inl q1339⟩
theorem ciX6_18 : xCI "FiddleRow$Peg" 18 iX6_init 2 := ⟨mX6_init, rfl, q1334, by unfold xNp; decide +kernel, ⟨by decide, by decide⟩, q1333, Or.inl q2573⟩
theorem fgX6_21_5 : xFL "FiddleRow$Peg" 21 5 2 := ⟨_, TX6, 3, "FiddleRow$Peg", rfl, by decide, in_X6, Or.inl rfl, Or.inl q1342⟩
theorem fpX6_21_5 : xFP "FiddleRow$Peg" 21 5 2 .boolean := ⟨_, TX6, 3, "FiddleRow$Peg", tyX6, ⟨rfl, in_X6, tyX6_ok, nmX6⟩, by decide, rfl, rfl, Or.inl rfl, Or.inl q1342⟩
theorem cvX6_34_X6 : xCV "FiddleRow$Peg" 34 "FiddleRow$Peg" iX6_change 1 := ⟨mX6_change, q2702, Or.inl ⟨by unfold xNp; decide +kernel, ⟨by decide, by decide⟩, q2703, Or.inl q2701⟩⟩
theorem csX6_25 : xCS "FiddleRow$Peg" 25 iJ18_min 2 := ⟨mJ18_min, by unfold xNp; decide +kernel, ⟨by decide, by decide⟩, q450, Or.inl q2705⟩
theorem csX6_31 : xCS "FiddleRow$Peg" 31 iJ18_max 2 := ⟨mJ18_max, by unfold xNp; decide +kernel, ⟨by decide, by decide⟩, q432, Or.inl q2706⟩
theorem fFX5_9_4 : xFF "FiddleRow$StringKey" 9 4 0 .int := ⟨_, TX5, 2, "FiddleRow$StringKey", tyX5, ⟨rfl, in_X5, tyX5_ok, nmX5⟩, by decide, rfl, rfl, rfl, Or.inl rfl, q1320⟩
theorem fFX5_15_4 : xFF "FiddleRow$StringKey" 15 4 1 .int := ⟨_, TX5, 2, "FiddleRow$StringKey", tyX5, ⟨rfl, in_X5, tyX5_ok, nmX5⟩, by decide, rfl, rfl, rfl, Or.inl rfl, q1322⟩
theorem fgX5_9_4 : xFL "FiddleRow$StringKey" 9 4 0 := ⟨_, TX5, 2, "FiddleRow$StringKey", rfl, by decide, in_X5, Or.inl rfl, Or.inl q1320⟩
theorem fgX5_15_4 : xFL "FiddleRow$StringKey" 15 4 1 := ⟨_, TX5, 2, "FiddleRow$StringKey", rfl, by decide, in_X5, Or.inl rfl, Or.inl q1322⟩
theorem fFX4_9_3 : xFF "FiddleRow$Fiddler" 9 3 3 (.array .int) := ⟨_, TX4, 7, "FiddleRow$Fiddler", tyX4, ⟨rfl, in_X4, tyX4_ok, nmX4⟩, by decide, rfl, rfl, rfl, Or.inl rfl, q1258⟩
theorem fpX4_15_3 : xFP "FiddleRow$Fiddler" 15 3 4 .int := ⟨_, TX4, 7, "FiddleRow$Fiddler", tyX4, ⟨rfl, in_X4, tyX4_ok, nmX4⟩, by decide, rfl, rfl, Or.inl rfl, Or.inl q1261⟩
theorem fFX4_19_3 : xFF "FiddleRow$Fiddler" 19 3 0 .int := ⟨_, TX4, 7, "FiddleRow$Fiddler", tyX4, ⟨rfl, in_X4, tyX4_ok, nmX4⟩, by decide, rfl, rfl, rfl, Or.inl rfl, q1249⟩
theorem fFX4_22_3 : xFF "FiddleRow$Fiddler" 22 3 2 (.object "java/lang/String") := ⟨_, TX4, 7, "FiddleRow$Fiddler", tyX4, ⟨rfl, in_X4, tyX4_ok, nmX4⟩, by decide, rfl, rfl, rfl, Or.inl rfl, q1255⟩
theorem fFX4_26_3 : xFF "FiddleRow$Fiddler" 26 3 1 .int := ⟨_, TX4, 7, "FiddleRow$Fiddler", tyX4, ⟨rfl, in_X4, tyX4_ok, nmX4⟩, by decide, rfl, rfl, rfl, Or.inl rfl, q1252⟩
theorem fgX4_19_3 : xFL "FiddleRow$Fiddler" 19 3 0 := ⟨_, TX4, 7, "FiddleRow$Fiddler", rfl, by decide, in_X4, Or.inl rfl, Or.inl q1249⟩
theorem fgX4_22_3 : xFL "FiddleRow$Fiddler" 22 3 2 := ⟨_, TX4, 7, "FiddleRow$Fiddler", rfl, by decide, in_X4, Or.inl rfl, Or.inl q1255⟩
theorem fgX4_26_3 : xFL "FiddleRow$Fiddler" 26 3 1 := ⟨_, TX4, 7, "FiddleRow$Fiddler", rfl, by decide, in_X4, Or.inl rfl, Or.inl q1252⟩
theorem ciX4_29 : xCI "FiddleRow$Fiddler" 29 iX4_init 3 := ⟨mX4_init, rfl, q1247, by unfold xNp; decide +kernel, ⟨by decide, by decide⟩, q1246, Or.inl q2402⟩
theorem fgX4_15_3 : xFL "FiddleRow$Fiddler" 15 3 4 := ⟨_, TX4, 7, "FiddleRow$Fiddler", rfl, by decide, in_X4, Or.inl rfl, Or.inl q1261⟩
theorem fgX4_32_3 : xFL "FiddleRow$Fiddler" 32 3 5 := ⟨_, TX4, 7, "FiddleRow$Fiddler", rfl, by decide, in_X4, Or.inl rfl, Or.inl q1264⟩
theorem fpX4_32_3 : xFP "FiddleRow$Fiddler" 32 3 5 .int := ⟨_, TX4, 7, "FiddleRow$Fiddler", tyX4, ⟨rfl, in_X4, tyX4_ok, nmX4⟩, by decide, rfl, rfl, Or.inl rfl, Or.inl q1264⟩
theorem fgX4_35_3 : xFL "FiddleRow$Fiddler" 35 3 6 := ⟨_, TX4, 7, "FiddleRow$Fiddler", rfl, by decide, in_X4, Or.inl rfl, Or.inl q1267⟩
theorem fpX4_35_3 : xFP "FiddleRow$Fiddler" 35 3 6 .int := ⟨_, TX4, 7, "FiddleRow$Fiddler", tyX4, ⟨rfl, in_X4, tyX4_ok, nmX4⟩, by decide, rfl, rfl, Or.inl rfl, Or.inl q1267⟩
theorem fgX4_9_3 : xFL "FiddleRow$Fiddler" 9 3 3 := ⟨_, TX4, 7, "FiddleRow$Fiddler", rfl, by decide, in_X4, Or.inl rfl, Or.inl q1258⟩
theorem fFX3_9_2 : xFF "FiddleRow$Hall" 9 2 13 (.array .int) := ⟨_, TX3, 18, "FiddleRow$Hall", tyX3, ⟨rfl, in_X3, tyX3_ok, nmX3⟩, by decide, rfl, rfl, rfl, Or.inl rfl, q1181⟩
theorem nwX3_15 : xNW "FiddleRow$Hall" 15 11 3 [.int 0, .null, .int 0] := ⟨_, TJ2, tyJ2, ⟨rfl, in_J2, tyJ2_ok, nmJ2⟩, q217, q218, q135, fun j hj => by
  rcases (by omega : j = 0 ∨ j = 1 ∨ j = 2) with rfl | rfl | rfl <;> rfl⟩
theorem ciX3_17 : xCI "FiddleRow$Hall" 17 iJ2_init 0 := ⟨mJ2_init, rfl, q221, by unfold xNp; decide +kernel, ⟨by decide, by decide⟩, q220, Or.inl q219⟩
theorem fFX3_18_2 : xFF "FiddleRow$Hall" 18 2 14 (.object "java/util/ArrayList") := ⟨_, TX3, 18, "FiddleRow$Hall", tyX3, ⟨rfl, in_X3, tyX3_ok, nmX3⟩, by decide, rfl, rfl, rfl, Or.inl rfl, q1184⟩
theorem fFX3_22_2 : xFF "FiddleRow$Hall" 22 2 15 (.object "java/util/ArrayList") := ⟨_, TX3, 18, "FiddleRow$Hall", tyX3, ⟨rfl, in_X3, tyX3_ok, nmX3⟩, by decide, rfl, rfl, rfl, Or.inl rfl, q1187⟩
theorem nwX3_25 : xNW "FiddleRow$Hall" 25 12 12 [.null, .null, .int 0, .int 0, .int 0, .float 0, .null, .null, .null, .null, .int 0, .int 0] := ⟨_, TJ5, tyJ5, ⟨rfl, in_J5, tyJ5_ok, nmJ5⟩, q247, q248, q138, fun j hj => by
  rcases (by omega : j = 0 ∨ j = 1 ∨ j = 2 ∨ j = 3 ∨ j = 4 ∨ j = 5 ∨ j = 6 ∨ j = 7 ∨ j = 8 ∨ j = 9 ∨ j = 10 ∨ j = 11) with rfl | rfl | rfl | rfl | rfl | rfl | rfl | rfl | rfl | rfl | rfl | rfl <;> rfl⟩
theorem ciX3_27 : xCI "FiddleRow$Hall" 27 iJ5_init 0 := ⟨mJ5_init, rfl, q251, by unfold xNp; decide +kernel, ⟨by decide, by decide⟩, q250, Or.inl q249⟩
theorem fFX3_28_2 : xFF "FiddleRow$Hall" 28 2 16 (.object "java/util/LinkedHashMap") := ⟨_, TX3, 18, "FiddleRow$Hall", tyX3, ⟨rfl, in_X3, tyX3_ok, nmX3⟩, by decide, rfl, rfl, rfl, Or.inl rfl, q1189⟩
theorem nwX3_32 : xNW "FiddleRow$Hall" 32 13 1 [.null] := ⟨_, TJ8, tyJ8, ⟨rfl, in_J8, tyJ8_ok, nmJ8⟩, q310, q311, q141, fun j hj => by
  rcases (by omega : j = 0) with rfl <;> rfl⟩
theorem ciX3_34 : xCI "FiddleRow$Hall" 34 iJ8_init 0 := ⟨mJ8_init, rfl, q314, by unfold xNp; decide +kernel, ⟨by decide, by decide⟩, q313, Or.inl q312⟩
theorem fFX3_35_2 : xFF "FiddleRow$Hall" 35 2 17 (.object "java/util/LinkedHashSet") := ⟨_, TX3, 18, "FiddleRow$Hall", tyX3, ⟨rfl, in_X3, tyX3_ok, nmX3⟩, by decide, rfl, rfl, rfl, Or.inl rfl, q1191⟩
theorem fpX3_39_2 : xFP "FiddleRow$Hall" 39 2 1 .int := ⟨_, TX3, 18, "FiddleRow$Hall", tyX3, ⟨rfl, in_X3, tyX3_ok, nmX3⟩, by decide, rfl, rfl, Or.inl rfl, Or.inl q1157⟩
theorem fpX3_43_2 : xFP "FiddleRow$Hall" 43 2 2 .int := ⟨_, TX3, 18, "FiddleRow$Hall", tyX3, ⟨rfl, in_X3, tyX3_ok, nmX3⟩, by decide, rfl, rfl, Or.inl rfl, Or.inl q1159⟩
theorem fpX3_46_2 : xFP "FiddleRow$Hall" 46 2 3 .int := ⟨_, TX3, 18, "FiddleRow$Hall", tyX3, ⟨rfl, in_X3, tyX3_ok, nmX3⟩, by decide, rfl, rfl, Or.inl rfl, Or.inl q1161⟩
theorem fpX3_49_2 : xFP "FiddleRow$Hall" 49 2 4 .int := ⟨_, TX3, 18, "FiddleRow$Hall", tyX3, ⟨rfl, in_X3, tyX3_ok, nmX3⟩, by decide, rfl, rfl, Or.inl rfl, Or.inl q1163⟩
theorem fFX3_52_2 : xFF "FiddleRow$Hall" 52 2 11 .int := ⟨_, TX3, 18, "FiddleRow$Hall", tyX3, ⟨rfl, in_X3, tyX3_ok, nmX3⟩, by decide, rfl, rfl, rfl, Or.inl rfl, q1177⟩
theorem fFX3_55_2 : xFF "FiddleRow$Hall" 55 2 12 .int := ⟨_, TX3, 18, "FiddleRow$Hall", tyX3, ⟨rfl, in_X3, tyX3_ok, nmX3⟩, by decide, rfl, rfl, rfl, Or.inl rfl, q1179⟩
theorem nwX3_99 : xNW "FiddleRow$Hall" 99 3 7 [.int 0, .int 0, .null, .null, .int 0, .int 0, .int 0] := ⟨_, TX4, tyX4, ⟨rfl, in_X4, tyX4_ok, nmX4⟩, q1239, q1240, q165, fun j hj => by
  rcases (by omega : j = 0 ∨ j = 1 ∨ j = 2 ∨ j = 3 ∨ j = 4 ∨ j = 5 ∨ j = 6) with rfl | rfl | rfl | rfl | rfl | rfl | rfl <;> rfl⟩
theorem fgX3_18_2 : xFL "FiddleRow$Hall" 18 2 14 := ⟨_, TX3, 18, "FiddleRow$Hall", rfl, by decide, in_X3, Or.inl rfl, Or.inl q1184⟩
theorem cvX3_146_J2 : xCV "FiddleRow$Hall" 146 "java/util/ArrayList" iJ2_size 0 := ⟨mJ2_size, q1242, Or.inl ⟨by unfold xNp; decide +kernel, ⟨by decide, by decide⟩, q1243, Or.inl q1241⟩⟩
theorem ciX3_184 : xCI "FiddleRow$Hall" 184 iX4_init 3 := ⟨mX4_init, rfl, q1247, by unfold xNp; decide +kernel, ⟨by decide, by decide⟩, q1246, Or.inl q1245⟩
theorem cvX3_104_J2 : xCV "FiddleRow$Hall" 104 "java/util/ArrayList" iJ2_add 1 := ⟨mJ2_add, q1286, Or.inl ⟨by unfold xNp; decide +kernel, ⟨by decide, by decide⟩, q1287, Or.inl q1285⟩⟩
theorem fgX3_22_2 : xFL "FiddleRow$Hall" 22 2 15 := ⟨_, TX3, 18, "FiddleRow$Hall", rfl, by decide, in_X3, Or.inl rfl, Or.inl q1187⟩
theorem fgX3_28_2 : xFL "FiddleRow$Hall" 28 2 16 := ⟨_, TX3, 18, "FiddleRow$Hall", rfl, by decide, in_X3, Or.inl rfl, Or.inl q1189⟩
theorem nwX3_127 : xNW "FiddleRow$Hall" 127 4 2 [.int 0, .int 0] := ⟨_, TX5, tyX5, ⟨rfl, in_X5, tyX5_ok, nmX5⟩, q1314, q1315, q166, fun j hj => by
  rcases (by omega : j = 0 ∨ j = 1) with rfl | rfl <;> rfl⟩
theorem fgX3_108_3 : xFL "FiddleRow$Hall" 108 3 0 := ⟨_, TX4, 7, "FiddleRow$Fiddler", rfl, by decide, in_X4, Or.inl rfl, Or.inr ⟨_, q1250⟩⟩
theorem ciX3_158 : xCI "FiddleRow$Hall" 158 iX5_init 2 := ⟨mX5_init, rfl, q1318, by unfold xNp; decide +kernel, ⟨by decide, by decide⟩, q1317, Or.inl q1316⟩
theorem nwX3_129 : xNW "FiddleRow$Hall" 129 5 3 [.int 0, .int 0, .int 0] := ⟨_, TX6, tyX6, ⟨rfl, in_X6, tyX6_ok, nmX6⟩, q1330, q1331, q167, fun j hj => by
  rcases (by omega : j = 0 ∨ j = 1 ∨ j = 2) with rfl | rfl | rfl <;> rfl⟩
theorem ciX3_187 : xCI "FiddleRow$Hall" 187 iX6_init 2 := ⟨mX6_init, rfl, q1334, by unfold xNp; decide +kernel, ⟨by decide, by decide⟩, q1333, Or.inl q1332⟩
theorem cvX3_137_J5 : xCV "FiddleRow$Hall" 137 "java/util/LinkedHashMap" iJ4_put 2 := ⟨mJ4_put, q1356, Or.inr ⟨⟨"java/util/LinkedHashMap", "put", "(Ljava/lang/Object;Ljava/lang/Object;)Ljava/lang/Object;"⟩, "java/util/HashMap", by unfold xNp; decide +kernel, ⟨by decide, by decide⟩, q1352, q1353, q1355, Or.inl q1354⟩⟩
theorem cvX3_111_J2 : xCV "FiddleRow$Hall" 111 "java/util/ArrayList" iJ2_get 1 := ⟨mJ2_get, q2135, Or.inl ⟨by unfold xNp; decide +kernel, ⟨by decide, by decide⟩, q2136, Or.inl q2134⟩⟩
theorem fgX3_175_3 : xFL "FiddleRow$Hall" 175 3 2 := ⟨_, TX4, 7, "FiddleRow$Fiddler", rfl, by decide, in_X4, Or.inl rfl, Or.inr ⟨_, q1256⟩⟩
theorem cvX3_179_J15 : xCV "FiddleRow$Hall" 179 "java/lang/String" iJ15_equals 1 := ⟨mJ15_equals, q1828, Or.inl ⟨by unfold xNp; decide +kernel, ⟨by decide, by decide⟩, q4248, Or.inl q2146⟩⟩
theorem nwX3_10 : xNW "FiddleRow$Hall" 10 2 18 [.int 0, .int 0, .int 0, .int 0, .int 0, .int 0, .int 0, .int 0, .int 0, .int 0, .int 0, .int 0, .int 0, .null, .null, .null, .null, .null] := ⟨_, TX3, tyX3, ⟨rfl, in_X3, tyX3_ok, nmX3⟩, q2264, q212, q132, fun j hj => by
  rcases (by omega : j = 0 ∨ j = 1 ∨ j = 2 ∨ j = 3 ∨ j = 4 ∨ j = 5 ∨ j = 6 ∨ j = 7 ∨ j = 8 ∨ j = 9 ∨ j = 10 ∨ j = 11 ∨ j = 12 ∨ j = 13 ∨ j = 14 ∨ j = 15 ∨ j = 16 ∨ j = 17) with rfl | rfl | rfl | rfl | rfl | rfl | rfl | rfl | rfl | rfl | rfl | rfl | rfl | rfl | rfl | rfl | rfl | rfl <;> rfl⟩
theorem ciX3_143 : xCI "FiddleRow$Hall" 143 iX3_init_2 1 := ⟨mX3_init_2, rfl, q2267, by unfold xNp; decide +kernel, ⟨by decide, by decide⟩, q2266, Or.inl q2265⟩
theorem fgX3_39_2 : xFL "FiddleRow$Hall" 39 2 1 := ⟨_, TX3, 18, "FiddleRow$Hall", rfl, by decide, in_X3, Or.inl rfl, Or.inl q1157⟩
theorem fgX3_43_2 : xFL "FiddleRow$Hall" 43 2 2 := ⟨_, TX3, 18, "FiddleRow$Hall", rfl, by decide, in_X3, Or.inl rfl, Or.inl q1159⟩
theorem fgX3_46_2 : xFL "FiddleRow$Hall" 46 2 3 := ⟨_, TX3, 18, "FiddleRow$Hall", rfl, by decide, in_X3, Or.inl rfl, Or.inl q1161⟩
theorem fgX3_49_2 : xFL "FiddleRow$Hall" 49 2 4 := ⟨_, TX3, 18, "FiddleRow$Hall", rfl, by decide, in_X3, Or.inl rfl, Or.inl q1163⟩
theorem fgX3_52_2 : xFL "FiddleRow$Hall" 52 2 11 := ⟨_, TX3, 18, "FiddleRow$Hall", rfl, by decide, in_X3, Or.inl rfl, Or.inl q1177⟩
theorem fgX3_55_2 : xFL "FiddleRow$Hall" 55 2 12 := ⟨_, TX3, 18, "FiddleRow$Hall", rfl, by decide, in_X3, Or.inl rfl, Or.inl q1179⟩
theorem fgX3_58_2 : xFL "FiddleRow$Hall" 58 2 0 := ⟨_, TX3, 18, "FiddleRow$Hall", rfl, by decide, in_X3, Or.inl rfl, Or.inl q1155⟩
theorem fpX3_58_2 : xFP "FiddleRow$Hall" 58 2 0 .int := ⟨_, TX3, 18, "FiddleRow$Hall", tyX3, ⟨rfl, in_X3, tyX3_ok, nmX3⟩, by decide, rfl, rfl, Or.inl rfl, Or.inl q1155⟩
theorem fgX3_61_2 : xFL "FiddleRow$Hall" 61 2 5 := ⟨_, TX3, 18, "FiddleRow$Hall", rfl, by decide, in_X3, Or.inl rfl, Or.inl q1165⟩
theorem fpX3_61_2 : xFP "FiddleRow$Hall" 61 2 5 .int := ⟨_, TX3, 18, "FiddleRow$Hall", tyX3, ⟨rfl, in_X3, tyX3_ok, nmX3⟩, by decide, rfl, rfl, Or.inl rfl, Or.inl q1165⟩
theorem fgX3_64_2 : xFL "FiddleRow$Hall" 64 2 6 := ⟨_, TX3, 18, "FiddleRow$Hall", rfl, by decide, in_X3, Or.inl rfl, Or.inl q1167⟩
theorem fpX3_64_2 : xFP "FiddleRow$Hall" 64 2 6 .int := ⟨_, TX3, 18, "FiddleRow$Hall", tyX3, ⟨rfl, in_X3, tyX3_ok, nmX3⟩, by decide, rfl, rfl, Or.inl rfl, Or.inl q1167⟩
theorem fgX3_67_2 : xFL "FiddleRow$Hall" 67 2 7 := ⟨_, TX3, 18, "FiddleRow$Hall", rfl, by decide, in_X3, Or.inl rfl, Or.inl q1169⟩
theorem fpX3_67_2 : xFP "FiddleRow$Hall" 67 2 7 .int := ⟨_, TX3, 18, "FiddleRow$Hall", tyX3, ⟨rfl, in_X3, tyX3_ok, nmX3⟩, by decide, rfl, rfl, Or.inl rfl, Or.inl q1169⟩
theorem fgX3_70_2 : xFL "FiddleRow$Hall" 70 2 8 := ⟨_, TX3, 18, "FiddleRow$Hall", rfl, by decide, in_X3, Or.inl rfl, Or.inl q1171⟩
theorem fpX3_70_2 : xFP "FiddleRow$Hall" 70 2 8 .int := ⟨_, TX3, 18, "FiddleRow$Hall", tyX3, ⟨rfl, in_X3, tyX3_ok, nmX3⟩, by decide, rfl, rfl, Or.inl rfl, Or.inl q1171⟩
theorem fgX3_73_2 : xFL "FiddleRow$Hall" 73 2 9 := ⟨_, TX3, 18, "FiddleRow$Hall", rfl, by decide, in_X3, Or.inl rfl, Or.inl q1173⟩
theorem fpX3_73_2 : xFP "FiddleRow$Hall" 73 2 9 .int := ⟨_, TX3, 18, "FiddleRow$Hall", tyX3, ⟨rfl, in_X3, tyX3_ok, nmX3⟩, by decide, rfl, rfl, Or.inl rfl, Or.inl q1173⟩
theorem fgX3_76_2 : xFL "FiddleRow$Hall" 76 2 10 := ⟨_, TX3, 18, "FiddleRow$Hall", rfl, by decide, in_X3, Or.inl rfl, Or.inl q1175⟩
theorem fpX3_76_2 : xFP "FiddleRow$Hall" 76 2 10 .int := ⟨_, TX3, 18, "FiddleRow$Hall", tyX3, ⟨rfl, in_X3, tyX3_ok, nmX3⟩, by decide, rfl, rfl, Or.inl rfl, Or.inl q1175⟩
theorem fgX3_9_2 : xFL "FiddleRow$Hall" 9 2 13 := ⟨_, TX3, 18, "FiddleRow$Hall", rfl, by decide, in_X3, Or.inl rfl, Or.inl q1181⟩
theorem cvX3_85_J2 : xCV "FiddleRow$Hall" 85 "java/util/ArrayList" iJ2_iterator 0 := ⟨mJ2_iterator, q2270, Or.inl ⟨by unfold xNp; decide +kernel, ⟨by decide, by decide⟩, q2271, Or.inl q2269⟩⟩
theorem cfX3_89_J38 : xCF "FiddleRow$Hall" 89 "java/util/ArrayList$Itr" iJ38_hasNext 0 := ⟨mJ38_hasNext, q2305, ⟨"java/util/Iterator", "hasNext", "()Z"⟩, by unfold xNp; decide +kernel, ⟨by decide, by decide⟩, q2293, List.mem_of_getElem? (i := 17) rfl, q2303⟩
theorem cfX3_89_J43 : xCF "FiddleRow$Hall" 89 "java/util/LinkedHashMap$LinkedEntryIterator" iJ42_hasNext 0 := ⟨mJ42_hasNext, q2317, ⟨"java/util/Iterator", "hasNext", "()Z"⟩, by unfold xNp; decide +kernel, ⟨by decide, by decide⟩, q2293, List.mem_of_getElem? (i := 29) rfl, q2315⟩
theorem cfX3_89_J44 : xCF "FiddleRow$Hall" 89 "java/util/LinkedHashMap$LinkedKeyIterator" iJ42_hasNext 0 := ⟨mJ42_hasNext, q2317, ⟨"java/util/Iterator", "hasNext", "()Z"⟩, by unfold xNp; decide +kernel, ⟨by decide, by decide⟩, q2293, List.mem_of_getElem? (i := 33) rfl, q2321⟩
theorem cfX3_89_J51 : xCF "FiddleRow$Hall" 89 "java/util/LinkedHashMap$LinkedValueIterator" iJ42_hasNext 0 := ⟨mJ42_hasNext, q2317, ⟨"java/util/Iterator", "hasNext", "()Z"⟩, by unfold xNp; decide +kernel, ⟨by decide, by decide⟩, q2293, List.mem_of_getElem? (i := 37) rfl, q2324⟩
theorem cfX3_95_J38 : xCF "FiddleRow$Hall" 95 "java/util/ArrayList$Itr" iJ38_next 0 := ⟨mJ38_next, q2343, ⟨"java/util/Iterator", "next", "()Ljava/lang/Object;"⟩, by unfold xNp; decide +kernel, ⟨by decide, by decide⟩, q2327, List.mem_of_getElem? (i := 18) rfl, q2341⟩
theorem cfX3_95_J43 : xCF "FiddleRow$Hall" 95 "java/util/LinkedHashMap$LinkedEntryIterator" iJ43_next 0 := ⟨mJ43_next, q2363, ⟨"java/util/Iterator", "next", "()Ljava/lang/Object;"⟩, by unfold xNp; decide +kernel, ⟨by decide, by decide⟩, q2327, List.mem_of_getElem? (i := 30) rfl, q2361⟩
theorem cfX3_95_J44 : xCF "FiddleRow$Hall" 95 "java/util/LinkedHashMap$LinkedKeyIterator" iJ44_next 0 := ⟨mJ44_next, q2378, ⟨"java/util/Iterator", "next", "()Ljava/lang/Object;"⟩, by unfold xNp; decide +kernel, ⟨by decide, by decide⟩, q2327, List.mem_of_getElem? (i := 34) rfl, q2376⟩
theorem cfX3_95_J51 : xCF "FiddleRow$Hall" 95 "java/util/LinkedHashMap$LinkedValueIterator" iJ51_next 0 := ⟨mJ51_next, q2393, ⟨"java/util/Iterator", "next", "()Ljava/lang/Object;"⟩, by unfold xNp; decide +kernel, ⟨by decide, by decide⟩, q2327, List.mem_of_getElem? (i := 38) rfl, q2391⟩
theorem ciX3_101 : xCI "FiddleRow$Hall" 101 iX4_init_2 1 := ⟨mX4_init_2, rfl, q2401, by unfold xNp; decide +kernel, ⟨by decide, by decide⟩, q2400, Or.inl q2399⟩
theorem cvX3_115_J5 : xCV "FiddleRow$Hall" 115 "java/util/LinkedHashMap" iJ5_entrySet 0 := ⟨mJ5_entrySet, q2405, Or.inl ⟨by unfold xNp; decide +kernel, ⟨by decide, by decide⟩, q2406, Or.inl q2404⟩⟩
theorem cfX3_119_J39 : xCF "FiddleRow$Hall" 119 "java/util/LinkedHashMap$LinkedEntrySet" iJ39_iterator 0 := ⟨mJ39_iterator, q2464, ⟨"java/util/Set", "iterator", "()Ljava/util/Iterator;"⟩, by unfold xNp; decide +kernel, ⟨by decide, by decide⟩, q2427, List.mem_of_getElem? (i := 32) rfl, q2462⟩
theorem cfX3_119_J46 : xCF "FiddleRow$Hall" 119 "java/util/LinkedHashMap$LinkedKeySet" iJ46_iterator 0 := ⟨mJ46_iterator, q2495, ⟨"java/util/Set", "iterator", "()Ljava/util/Iterator;"⟩, by unfold xNp; decide +kernel, ⟨by decide, by decide⟩, q2427, List.mem_of_getElem? (i := 36) rfl, q2493⟩
theorem cfX3_119_J8 : xCF "FiddleRow$Hall" 119 "java/util/LinkedHashSet" iJ7_iterator 0 := ⟨mJ7_iterator, q2513, ⟨"java/util/Set", "iterator", "()Ljava/util/Iterator;"⟩, by unfold xNp; decide +kernel, ⟨by decide, by decide⟩, q2427, List.mem_of_getElem? (i := 41) rfl, q2511⟩
theorem cfX3_124_J32 : xCF "FiddleRow$Hall" 124 "java/util/LinkedHashMap$Entry" iJ31_getKey 0 := ⟨mJ31_getKey, q2389, ⟨"java/util/Map$Entry", "getKey", "()Ljava/lang/Object;"⟩, by unfold xNp; decide +kernel, ⟨by decide, by decide⟩, q2544, List.mem_of_getElem? (i := 27) rfl, q2555⟩
theorem cfX3_131_J32 : xCF "FiddleRow$Hall" 131 "java/util/LinkedHashMap$Entry" iJ31_getValue 0 := ⟨mJ31_getValue, q2563, ⟨"java/util/Map$Entry", "getValue", "()Ljava/lang/Object;"⟩, by unfold xNp; decide +kernel, ⟨by decide, by decide⟩, q2558, List.mem_of_getElem? (i := 28) rfl, q2568⟩
theorem ciX3_134 : xCI "FiddleRow$Hall" 134 iX6_init_2 1 := ⟨mX6_init_2, rfl, q2572, by unfold xNp; decide +kernel, ⟨by decide, by decide⟩, q2571, Or.inl q2570⟩
theorem fgX3_35_2 : xFL "FiddleRow$Hall" 35 2 17 := ⟨_, TX3, 18, "FiddleRow$Hall", rfl, by decide, in_X3, Or.inl rfl, Or.inl q1191⟩
theorem cvX3_141_J8 : xCV "FiddleRow$Hall" 141 "java/util/LinkedHashSet" iJ7_iterator 0 := ⟨mJ7_iterator, q2513, Or.inr ⟨⟨"java/util/LinkedHashSet", "iterator", "()Ljava/util/Iterator;"⟩, "java/util/HashSet", by unfold xNp; decide +kernel, ⟨by decide, by decide⟩, q2574, q2575, q2577, Or.inl q2576⟩⟩
theorem cvX3_142_J8 : xCV "FiddleRow$Hall" 142 "java/util/LinkedHashSet" iJ7_add 1 := ⟨mJ7_add, q2582, Or.inr ⟨⟨"java/util/LinkedHashSet", "add", "(Ljava/lang/Object;)Z"⟩, "java/util/HashSet", by unfold xNp; decide +kernel, ⟨by decide, by decide⟩, q2578, q2579, q2581, Or.inl q2580⟩⟩
theorem cvX3_188_J8 : xCV "FiddleRow$Hall" 188 "java/util/LinkedHashSet" iJ7_clear 0 := ⟨mJ7_clear, q2648, Or.inr ⟨⟨"java/util/LinkedHashSet", "clear", "()V"⟩, "java/util/HashSet", by unfold xNp; decide +kernel, ⟨by decide, by decide⟩, q2644, q2645, q2647, Or.inl q2646⟩⟩
theorem cvX3_191_X4 : xCV "FiddleRow$Hall" 191 "FiddleRow$Fiddler" iX4_forget 0 := ⟨mX4_forget, q2660, Or.inl ⟨by unfold xNp; decide +kernel, ⟨by decide, by decide⟩, q2661, Or.inl q2659⟩⟩
theorem cvX3_194_X3 : xCV "FiddleRow$Hall" 194 "FiddleRow$Hall" iX3_tune 2 := ⟨mX3_tune, q2665, Or.inl ⟨by unfold xNp; decide +kernel, ⟨by decide, by decide⟩, qs39, Or.inl q2663⟩⟩
theorem cvX3_198_X4 : xCV "FiddleRow$Hall" 198 "FiddleRow$Fiddler" iX4_isInTune 0 := ⟨mX4_isInTune, q2708, Or.inl ⟨by unfold xNp; decide +kernel, ⟨by decide, by decide⟩, q2709, Or.inl q2707⟩⟩
theorem fpX3_201_3 : xFP "FiddleRow$Hall" 201 3 4 .int := ⟨_, TX4, 7, "FiddleRow$Fiddler", tyX4, ⟨rfl, in_X4, tyX4_ok, nmX4⟩, by decide, rfl, rfl, Or.inl rfl, Or.inr ⟨_, q1262⟩⟩
theorem fpX3_204_3 : xFP "FiddleRow$Hall" 204 3 6 .int := ⟨_, TX4, 7, "FiddleRow$Fiddler", tyX4, ⟨rfl, in_X4, tyX4_ok, nmX4⟩, by decide, rfl, rfl, Or.inl rfl, Or.inr ⟨_, q1268⟩⟩
theorem fgX3_207_3 : xFL "FiddleRow$Hall" 207 3 3 := ⟨_, TX4, 7, "FiddleRow$Fiddler", rfl, by decide, in_X4, Or.inl rfl, Or.inr ⟨_, q1259⟩⟩
theorem fgX3_210_3 : xFL "FiddleRow$Hall" 210 3 1 := ⟨_, TX4, 7, "FiddleRow$Fiddler", rfl, by decide, in_X4, Or.inl rfl, Or.inr ⟨_, q1253⟩⟩
theorem cvX3_213_X3 : xCV "FiddleRow$Hall" 213 "FiddleRow$Hall" iX3_tuneString 4 := ⟨mX3_tuneString, q2669, Or.inl ⟨by unfold xNp; decide +kernel, ⟨by decide, by decide⟩, qs40, Or.inl q2667⟩⟩
theorem fgX3_204_3 : xFL "FiddleRow$Hall" 204 3 6 := ⟨_, TX4, 7, "FiddleRow$Fiddler", rfl, by decide, in_X4, Or.inl rfl, Or.inr ⟨_, q1268⟩⟩
theorem fgX3_217_3 : xFL "FiddleRow$Hall" 217 3 5 := ⟨_, TX4, 7, "FiddleRow$Fiddler", rfl, by decide, in_X4, Or.inl rfl, Or.inr ⟨_, q1265⟩⟩
theorem fpX3_217_3 : xFP "FiddleRow$Hall" 217 3 5 .int := ⟨_, TX4, 7, "FiddleRow$Fiddler", tyX4, ⟨rfl, in_X4, tyX4_ok, nmX4⟩, by decide, rfl, rfl, Or.inl rfl, Or.inr ⟨_, q1265⟩⟩
theorem cvX3_161_J5 : xCV "FiddleRow$Hall" 161 "java/util/LinkedHashMap" iJ5_get 1 := ⟨mJ5_get, q2672, Or.inl ⟨by unfold xNp; decide +kernel, ⟨by decide, by decide⟩, q2673, Or.inl q2671⟩⟩
theorem fgX3_168_5 : xFL "FiddleRow$Hall" 168 5 2 := ⟨_, TX6, 3, "FiddleRow$Peg", rfl, by decide, in_X6, Or.inl rfl, Or.inr ⟨_, q1343⟩⟩
theorem fgX3_220_5 : xFL "FiddleRow$Hall" 220 5 0 := ⟨_, TX6, 3, "FiddleRow$Peg", rfl, by decide, in_X6, Or.inl rfl, Or.inr ⟨_, q1337⟩⟩
theorem csX3_223 : xCS "FiddleRow$Hall" 223 iJ18_abs 1 := ⟨mJ18_abs, by unfold xNp; decide +kernel, ⟨by decide, by decide⟩, q2687, Or.inl q2686⟩
theorem cvX3_229_X3 : xCV "FiddleRow$Hall" 229 "FiddleRow$Hall" iX3_forgive 1 := ⟨mX3_forgive, q2691, Or.inl ⟨by unfold xNp; decide +kernel, ⟨by decide, by decide⟩, qs41, Or.inl q2689⟩⟩
theorem cvX3_233_X3 : xCV "FiddleRow$Hall" 233 "FiddleRow$Hall" iX3_turn 2 := ⟨mX3_turn, q2695, Or.inl ⟨by unfold xNp; decide +kernel, ⟨by decide, by decide⟩, qs42, Or.inl q2693⟩⟩
theorem cvX3_237_X6 : xCV "FiddleRow$Hall" 237 "FiddleRow$Peg" iX6_turn 1 := ⟨mX6_turn, q2698, Or.inl ⟨by unfold xNp; decide +kernel, ⟨by decide, by decide⟩, q2699, Or.inl q2697⟩⟩
theorem cvX3_164_X3 : xCV "FiddleRow$Hall" 164 "FiddleRow$Hall" iX3_peg 2 := ⟨mX3_peg, q2716, Or.inl ⟨by unfold xNp; decide +kernel, ⟨by decide, by decide⟩, q2717, Or.inl q2715⟩⟩
theorem csX3_150 : xCS "FiddleRow$Hall" 150 iX1_isIn 3 := ⟨mX1_isIn, by unfold xNp; decide +kernel, ⟨by decide, by decide⟩, q2025, Or.inr ⟨_, q2719⟩⟩
theorem csX3_256 : xCS "FiddleRow$Hall" 256 iX1_checkArgument 1 := ⟨mX1_checkArgument, by unfold xNp; decide +kernel, ⟨by decide, by decide⟩, q2745, Or.inr ⟨_, q2744⟩⟩
theorem csX3_172 : xCS "FiddleRow$Hall" 172 iX1_checkState 1 := ⟨mX1_checkState, by unfold xNp; decide +kernel, ⟨by decide, by decide⟩, q2753, Or.inr ⟨_, q2752⟩⟩
theorem fgX3_259_5 : xFL "FiddleRow$Hall" 259 5 1 := ⟨_, TX6, 3, "FiddleRow$Peg", rfl, by decide, in_X6, Or.inl rfl, Or.inr ⟨_, q1340⟩⟩
theorem csX3_154 : xCS "FiddleRow$Hall" 154 iX1_checkIndex 1 := ⟨mX1_checkIndex, by unfold xNp; decide +kernel, ⟨by decide, by decide⟩, q2721, Or.inr ⟨_, q2720⟩⟩
theorem fpX3_259_5 : xFP "FiddleRow$Hall" 259 5 1 .int := ⟨_, TX6, 3, "FiddleRow$Peg", tyX6, ⟨rfl, in_X6, tyX6_ok, nmX6⟩, by decide, rfl, rfl, Or.inl rfl, Or.inr ⟨_, q1340⟩⟩
theorem fpX3_168_5 : xFP "FiddleRow$Hall" 168 5 2 .boolean := ⟨_, TX6, 3, "FiddleRow$Peg", tyX6, ⟨rfl, in_X6, tyX6_ok, nmX6⟩, by decide, rfl, rfl, Or.inl rfl, Or.inr ⟨_, q1343⟩⟩
theorem fpX3_220_5 : xFP "FiddleRow$Hall" 220 5 0 .int := ⟨_, TX6, 3, "FiddleRow$Peg", tyX6, ⟨rfl, in_X6, tyX6_ok, nmX6⟩, by decide, rfl, rfl, Or.inl rfl, Or.inr ⟨_, q1337⟩⟩
theorem cvX3_262_X3 : xCV "FiddleRow$Hall" 262 "FiddleRow$Hall" iX3_fiddler 1 := ⟨mX3_fiddler, q2773, Or.inl ⟨by unfold xNp; decide +kernel, ⟨by decide, by decide⟩, q2774, Or.inl q2772⟩⟩
theorem cvX3_266_X3 : xCV "FiddleRow$Hall" 266 "FiddleRow$Hall" iX3_placeOf 1 := ⟨mX3_placeOf, q2777, Or.inl ⟨by unfold xNp; decide +kernel, ⟨by decide, by decide⟩, q2778, Or.inl q2776⟩⟩
theorem cvX3_269_J2 : xCV "FiddleRow$Hall" 269 "java/util/ArrayList" iJ2_set 2 := ⟨mJ2_set, q2781, Or.inl ⟨by unfold xNp; decide +kernel, ⟨by decide, by decide⟩, q2782, Or.inl q2780⟩⟩
theorem cvX3_273_J2 : xCV "FiddleRow$Hall" 273 "java/util/ArrayList" iJ2_remove 1 := ⟨mJ2_remove, q2789, Or.inl ⟨by unfold xNp; decide +kernel, ⟨by decide, by decide⟩, q2790, Or.inl q2788⟩⟩
theorem cvX3_276_X3 : xCV "FiddleRow$Hall" 276 "FiddleRow$Hall" iX3_passHour 0 := ⟨mX3_passHour, q2810, Or.inl ⟨by unfold xNp; decide +kernel, ⟨by decide, by decide⟩, q2811, Or.inl q2809⟩⟩
theorem csX3_240 : xCS "FiddleRow$Hall" 240 iJ23_compare 2 := ⟨mJ23_compare, by unfold xNp; decide +kernel, ⟨by decide, by decide⟩, q1591, Or.inl q2813⟩
theorem fgX3_246_4 : xFL "FiddleRow$Hall" 246 4 1 := ⟨_, TX5, 2, "FiddleRow$StringKey", rfl, by decide, in_X5, Or.inl rfl, Or.inr ⟨_, q1323⟩⟩
theorem cvX3_249_X6 : xCV "FiddleRow$Hall" 249 "FiddleRow$Peg" iX6_change 1 := ⟨mX6_change, q2702, Or.inl ⟨by unfold xNp; decide +kernel, ⟨by decide, by decide⟩, q2703, Or.inl q2814⟩⟩
theorem cvX3_253_X6 : xCV "FiddleRow$Hall" 253 "FiddleRow$Peg" iX6_hold 0 := ⟨mX6_hold, q2816, Or.inl ⟨by unfold xNp; decide +kernel, ⟨by decide, by decide⟩, q2817, Or.inl q2815⟩⟩
theorem nwX2_9 : xNW "FiddleRow$History" 9 18 3 [.null, .int 0, .int 0] := ⟨_, TJ36, tyJ36, ⟨rfl, in_J36, tyJ36_ok, nmJ36⟩, q1926, q1927, q174, fun j hj => by
  rcases (by omega : j = 0 ∨ j = 1 ∨ j = 2) with rfl | rfl | rfl <;> rfl⟩
theorem ciX2_11 : xCI "FiddleRow$History" 11 iJ36_init 0 := ⟨mJ36_init, rfl, q1930, by unfold xNp; decide +kernel, ⟨by decide, by decide⟩, q1929, Or.inl q1928⟩
theorem fFX2_12_1 : xFF "FiddleRow$History" 12 1 0 (.object "java/util/ArrayDeque") := ⟨_, TX2, 3, "FiddleRow$History", tyX2, ⟨rfl, in_X2, tyX2_ok, nmX2⟩, by decide, rfl, rfl, rfl, Or.inl rfl, q1963⟩
theorem nwX2_18 : xNW "FiddleRow$History" 18 11 3 [.int 0, .null, .int 0] := ⟨_, TJ2, tyJ2, ⟨rfl, in_J2, tyJ2_ok, nmJ2⟩, q1945, q218, q135, fun j hj => by
  rcases (by omega : j = 0 ∨ j = 1 ∨ j = 2) with rfl | rfl | rfl <;> rfl⟩
theorem ciX2_20 : xCI "FiddleRow$History" 20 iJ2_init 0 := ⟨mJ2_init, rfl, q221, by unfold xNp; decide +kernel, ⟨by decide, by decide⟩, q220, Or.inl q1946⟩
theorem fFX2_21_1 : xFF "FiddleRow$History" 21 1 1 (.object "java/util/ArrayList") := ⟨_, TX2, 3, "FiddleRow$History", tyX2, ⟨rfl, in_X2, tyX2_ok, nmX2⟩, by decide, rfl, rfl, rfl, Or.inl rfl, q1965⟩
theorem cvX2_25_X2 : xCV "FiddleRow$History" 25 "FiddleRow$History" iX2_begin 1 := ⟨mX2_begin, q1948, Or.inl ⟨by unfold xNp; decide +kernel, ⟨by decide, by decide⟩, q1949, Or.inl q1947⟩⟩
theorem fpX2_29_1 : xFP "FiddleRow$History" 29 1 2 (.object "FiddleRow$Copyable") := ⟨_, TX2, 3, "FiddleRow$History", tyX2, ⟨rfl, in_X2, tyX2_ok, nmX2⟩, by decide, rfl, rfl, Or.inl rfl, Or.inl q1966⟩
theorem fgX2_12_1 : xFL "FiddleRow$History" 12 1 0 := ⟨_, TX2, 3, "FiddleRow$History", rfl, by decide, in_X2, Or.inl rfl, Or.inl q1963⟩
theorem cvX2_33_J36 : xCV "FiddleRow$History" 33 "java/util/ArrayDeque" iJ36_clear 0 := ⟨mJ36_clear, q1952, Or.inl ⟨by unfold xNp; decide +kernel, ⟨by decide, by decide⟩, q1953, Or.inl q1951⟩⟩
theorem fgX2_21_1 : xFL "FiddleRow$History" 21 1 1 := ⟨_, TX2, 3, "FiddleRow$History", rfl, by decide, in_X2, Or.inl rfl, Or.inl q1965⟩
theorem cvX2_36_J2 : xCV "FiddleRow$History" 36 "java/util/ArrayList" iJ2_clear 0 := ⟨mJ2_clear, q1959, Or.inl ⟨by unfold xNp; decide +kernel, ⟨by decide, by decide⟩, q1960, Or.inl q1958⟩⟩
theorem cvX2_37_J2 : xCV "FiddleRow$History" 37 "java/util/ArrayList" iJ2_add 1 := ⟨mJ2_add, q1286, Or.inl ⟨by unfold xNp; decide +kernel, ⟨by decide, by decide⟩, q1287, Or.inl q1962⟩⟩
theorem cvX2_41_J36 : xCV "FiddleRow$History" 41 "java/util/ArrayDeque" iJ36_size 0 := ⟨mJ36_size, q2828, Or.inl ⟨by unfold xNp; decide +kernel, ⟨by decide, by decide⟩, q2829, Or.inl q2827⟩⟩
theorem cvX2_45_J36 : xCV "FiddleRow$History" 45 "java/util/ArrayDeque" iJ36_removeFirst 0 := ⟨mJ36_removeFirst, q2835, Or.inl ⟨by unfold xNp; decide +kernel, ⟨by decide, by decide⟩, q2836, Or.inl q2834⟩⟩
theorem fgX2_29_1 : xFL "FiddleRow$History" 29 1 2 := ⟨_, TX2, 3, "FiddleRow$History", rfl, by decide, in_X2, Or.inl rfl, Or.inl q1966⟩
theorem cvX2_51_J36 : xCV "FiddleRow$History" 51 "java/util/ArrayDeque" iJ36_addLast 1 := ⟨mJ36_addLast, q2848, Or.inl ⟨by unfold xNp; decide +kernel, ⟨by decide, by decide⟩, q2849, Or.inl q2847⟩⟩
theorem cvX2_55_J36 : xCV "FiddleRow$History" 55 "java/util/ArrayDeque" iJ36_isEmpty 0 := ⟨mJ36_isEmpty, q3464, Or.inl ⟨by unfold xNp; decide +kernel, ⟨by decide, by decide⟩, q3465, Or.inl q3463⟩⟩
theorem csX2_59 : xCS "FiddleRow$History" 59 iX1_checkState 1 := ⟨mX1_checkState, by unfold xNp; decide +kernel, ⟨by decide, by decide⟩, q2753, Or.inr ⟨_, q3467⟩⟩
theorem cvX2_63_J36 : xCV "FiddleRow$History" 63 "java/util/ArrayDeque" iJ36_removeLast 0 := ⟨mJ36_removeLast, q3469, Or.inl ⟨by unfold xNp; decide +kernel, ⟨by decide, by decide⟩, q3470, Or.inl q3468⟩⟩
theorem csX2_66 : xCS "FiddleRow$History" 66 iX1_isIn 3 := ⟨mX1_isIn, by unfold xNp; decide +kernel, ⟨by decide, by decide⟩, q2025, Or.inr ⟨_, q3490⟩⟩
theorem csX2_70 : xCS "FiddleRow$History" 70 iX1_checkIndex 1 := ⟨mX1_checkIndex, by unfold xNp; decide +kernel, ⟨by decide, by decide⟩, q2721, Or.inr ⟨_, q3491⟩⟩
theorem cvX2_73_J2 : xCV "FiddleRow$History" 73 "java/util/ArrayList" iJ2_set 2 := ⟨mJ2_set, q2781, Or.inl ⟨by unfold xNp; decide +kernel, ⟨by decide, by decide⟩, q2782, Or.inl q3492⟩⟩
theorem cvX2_77_J2 : xCV "FiddleRow$History" 77 "java/util/ArrayList" iJ2_get 1 := ⟨mJ2_get, q2135, Or.inl ⟨by unfold xNp; decide +kernel, ⟨by decide, by decide⟩, q2136, Or.inl q3504⟩⟩
theorem ciX9_1 : xCI "FiddleRow$ParseError" 1 iJ10_init_3 4 := ⟨mJ10_init_3, rfl, q2091, by unfold xNp; decide +kernel, ⟨by decide, by decide⟩, q2090, Or.inl q2089⟩
theorem fFX9_7_8 : xFF "FiddleRow$ParseError" 7 8 6 .int := ⟨_, TX9, 8, "FiddleRow$ParseError", tyX9, ⟨rfl, in_X9, tyX9_ok, nmX9⟩, by decide, rfl, rfl, rfl, Or.inl rfl, q2095⟩
theorem fFX9_13_8 : xFF "FiddleRow$ParseError" 13 8 7 .int := ⟨_, TX9, 8, "FiddleRow$ParseError", tyX9, ⟨rfl, in_X9, tyX9_ok, nmX9⟩, by decide, rfl, rfl, rfl, Or.inl rfl, q2097⟩
theorem nwX10_7 : xNW "FiddleRow$Repeat" 7 11 3 [.int 0, .null, .int 0] := ⟨_, TJ2, tyJ2, ⟨rfl, in_J2, tyJ2_ok, nmJ2⟩, q2176, q218, q135, fun j hj => by
  rcases (by omega : j = 0 ∨ j = 1 ∨ j = 2) with rfl | rfl | rfl <;> rfl⟩
theorem ciX10_9 : xCI "FiddleRow$Repeat" 9 iJ2_init 0 := ⟨mJ2_init, rfl, q221, by unfold xNp; decide +kernel, ⟨by decide, by decide⟩, q220, Or.inl q2177⟩
theorem fFX10_10_9 : xFF "FiddleRow$Repeat" 10 9 0 (.object "java/util/ArrayList") := ⟨_, TX10, 2, "FiddleRow$Repeat", tyX10, ⟨rfl, in_X10, tyX10_ok, nmX10⟩, by decide, rfl, rfl, rfl, Or.inl rfl, q2178⟩
theorem fFX10_16_9 : xFF "FiddleRow$Repeat" 16 9 1 .int := ⟨_, TX10, 2, "FiddleRow$Repeat", tyX10, ⟨rfl, in_X10, tyX10_ok, nmX10⟩, by decide, rfl, rfl, rfl, Or.inl rfl, q2180⟩
theorem fgX10_16_9 : xFL "FiddleRow$Repeat" 16 9 1 := ⟨_, TX10, 2, "FiddleRow$Repeat", rfl, by decide, in_X10, Or.inl rfl, Or.inl q2180⟩
theorem fgX10_10_9 : xFL "FiddleRow$Repeat" 10 9 0 := ⟨_, TX10, 2, "FiddleRow$Repeat", rfl, by decide, in_X10, Or.inl rfl, Or.inl q2178⟩
theorem cvX10_20_J2 : xCV "FiddleRow$Repeat" 20 "java/util/ArrayList" iJ2_size 0 := ⟨mJ2_size, q1242, Or.inl ⟨by unfold xNp; decide +kernel, ⟨by decide, by decide⟩, q1243, Or.inl q2591⟩⟩
theorem cvX10_24_J2 : xCV "FiddleRow$Repeat" 24 "java/util/ArrayList" iJ2_get 1 := ⟨mJ2_get, q2135, Or.inl ⟨by unfold xNp; decide +kernel, ⟨by decide, by decide⟩, q2136, Or.inl q2592⟩⟩
theorem cfX10_30_X10 : xCF "FiddleRow$Repeat" 30 "FiddleRow$Repeat" iX10_execute 1 := ⟨mX10_execute, q2588, ⟨"FiddleRow$Part", "execute", "(LFiddleRow$Hall;)Z"⟩, by unfold xNp; decide +kernel, ⟨by decide, by decide⟩, q2595, List.mem_of_getElem? (i := 1) rfl, q2820⟩
theorem cfX10_30_X11 : xCF "FiddleRow$Repeat" 30 "FiddleRow$Command" iX11_execute 1 := ⟨mX11_execute, q2601, ⟨"FiddleRow$Part", "execute", "(LFiddleRow$Hall;)Z"⟩, by unfold xNp; decide +kernel, ⟨by decide, by decide⟩, q2595, List.mem_of_getElem? (i := 0) rfl, q2599⟩
theorem fFX11_3_10 : xFF "FiddleRow$Command" 3 10 5 (.object "FiddleRow") := ⟨_, TX11, 6, "FiddleRow$Command", tyX11, ⟨rfl, in_X11, tyX11_ok, nmX11⟩, by decide, rfl, rfl, rfl, Or.inl rfl, q2242⟩
theorem fFX11_15_10 : xFF "FiddleRow$Command" 15 10 0 (.object "java/lang/String") := ⟨_, TX11, 6, "FiddleRow$Command", tyX11, ⟨rfl, in_X11, tyX11_ok, nmX11⟩, by decide, rfl, rfl, rfl, Or.inl rfl, q2237⟩
theorem fFX11_19_10 : xFF "FiddleRow$Command" 19 10 1 (.object "java/lang/String") := ⟨_, TX11, 6, "FiddleRow$Command", tyX11, ⟨rfl, in_X11, tyX11_ok, nmX11⟩, by decide, rfl, rfl, rfl, Or.inl rfl, q2238⟩
theorem fFX11_22_10 : xFF "FiddleRow$Command" 22 10 2 (.object "java/lang/String") := ⟨_, TX11, 6, "FiddleRow$Command", tyX11, ⟨rfl, in_X11, tyX11_ok, nmX11⟩, by decide, rfl, rfl, rfl, Or.inl rfl, q2239⟩
theorem fFX11_25_10 : xFF "FiddleRow$Command" 25 10 3 .int := ⟨_, TX11, 6, "FiddleRow$Command", tyX11, ⟨rfl, in_X11, tyX11_ok, nmX11⟩, by decide, rfl, rfl, rfl, Or.inl rfl, q2240⟩
theorem fFX11_29_10 : xFF "FiddleRow$Command" 29 10 4 .int := ⟨_, TX11, 6, "FiddleRow$Command", tyX11, ⟨rfl, in_X11, tyX11_ok, nmX11⟩, by decide, rfl, rfl, rfl, Or.inl rfl, q2241⟩
theorem fgX11_3_10 : xFL "FiddleRow$Command" 3 10 5 := ⟨_, TX11, 6, "FiddleRow$Command", rfl, by decide, in_X11, Or.inl rfl, Or.inl q2242⟩
theorem fgX11_94_0 : xFL "FiddleRow$Command" 94 0 5 := ⟨_, TX1, 7, "FiddleRow", rfl, by decide, in_X1, Or.inl rfl, Or.inr ⟨_, q1984⟩⟩
theorem cvX11_97_X11 : xCV "FiddleRow$Command" 97 "FiddleRow$Command" iX11_run 1 := ⟨mX11_run, q2627, Or.inl ⟨by unfold xNp; decide +kernel, ⟨by decide, by decide⟩, qs38, Or.inl q2625⟩⟩
theorem fpX11_94_0 : xFP "FiddleRow$Command" 94 0 5 .int := ⟨_, TX1, 7, "FiddleRow", tyX1, ⟨rfl, in_X1, tyX1_ok, nmX1⟩, by decide, rfl, rfl, Or.inl rfl, Or.inr ⟨_, q1984⟩⟩
theorem fgX11_19_10 : xFL "FiddleRow$Command" 19 10 1 := ⟨_, TX11, 6, "FiddleRow$Command", rfl, by decide, in_X11, Or.inl rfl, Or.inl q2238⟩
theorem cvX11_32_X3 : xCV "FiddleRow$Command" 32 "FiddleRow$Hall" iX3_find 1 := ⟨mX3_find, q2131, Or.inl ⟨by unfold xNp; decide +kernel, ⟨by decide, by decide⟩, q2132, Or.inl q2629⟩⟩
theorem fgX11_15_10 : xFL "FiddleRow$Command" 15 10 0 := ⟨_, TX11, 6, "FiddleRow$Command", rfl, by decide, in_X11, Or.inl rfl, Or.inl q2237⟩
theorem cvX11_38_J15 : xCV "FiddleRow$Command" 38 "java/lang/String" iJ15_hashCode 0 := ⟨mJ15_hashCode, q1396, Or.inl ⟨by unfold xNp; decide +kernel, ⟨by decide, by decide⟩, q4249, Or.inl q2630⟩⟩
theorem cvX11_46_J15 : xCV "FiddleRow$Command" 46 "java/lang/String" iJ15_equals 1 := ⟨mJ15_equals, q1828, Or.inl ⟨by unfold xNp; decide +kernel, ⟨by decide, by decide⟩, q4248, Or.inl q2632⟩⟩
theorem cvX11_64_X3 : xCV "FiddleRow$Command" 64 "FiddleRow$Hall" iX3_tuneRow 0 := ⟨mX3_tuneRow, q2641, Or.inl ⟨by unfold xNp; decide +kernel, ⟨by decide, by decide⟩, q2642, Or.inl q2640⟩⟩
theorem fgX11_25_10 : xFL "FiddleRow$Command" 25 10 3 := ⟨_, TX11, 6, "FiddleRow$Command", rfl, by decide, in_X11, Or.inl rfl, Or.inl q2240⟩
theorem fgX11_29_10 : xFL "FiddleRow$Command" 29 10 4 := ⟨_, TX11, 6, "FiddleRow$Command", rfl, by decide, in_X11, Or.inl rfl, Or.inl q2241⟩
theorem cvX11_67_X3 : xCV "FiddleRow$Command" 67 "FiddleRow$Hall" iX3_turnPeg 3 := ⟨mX3_turnPeg, q2712, Or.inl ⟨by unfold xNp; decide +kernel, ⟨by decide, by decide⟩, q2713, Or.inl q2711⟩⟩
theorem cvX11_71_X3 : xCV "FiddleRow$Command" 71 "FiddleRow$Hall" iX3_chalkPeg 2 := ⟨mX3_chalkPeg, q2761, Or.inl ⟨by unfold xNp; decide +kernel, ⟨by decide, by decide⟩, q2762, Or.inl q2760⟩⟩
theorem cvX11_75_X3 : xCV "FiddleRow$Command" 75 "FiddleRow$Hall" iX3_replaceString 2 := ⟨mX3_replaceString, q2765, Or.inl ⟨by unfold xNp; decide +kernel, ⟨by decide, by decide⟩, q2766, Or.inl q2764⟩⟩
theorem fgX11_22_10 : xFL "FiddleRow$Command" 22 10 2 := ⟨_, TX11, 6, "FiddleRow$Command", rfl, by decide, in_X11, Or.inl rfl, Or.inl q2239⟩
theorem cvX11_78_X3 : xCV "FiddleRow$Command" 78 "FiddleRow$Hall" iX3_swapPlaces 2 := ⟨mX3_swapPlaces, q2769, Or.inl ⟨by unfold xNp; decide +kernel, ⟨by decide, by decide⟩, q2770, Or.inl q2768⟩⟩
theorem cvX11_81_X3 : xCV "FiddleRow$Command" 81 "FiddleRow$Hall" iX3_leaveRow 1 := ⟨mX3_leaveRow, q2785, Or.inl ⟨by unfold xNp; decide +kernel, ⟨by decide, by decide⟩, q2786, Or.inl q2784⟩⟩
theorem cvX11_85_X3 : xCV "FiddleRow$Command" 85 "FiddleRow$Hall" iX3_joinRow 1 := ⟨mX3_joinRow, q2798, Or.inl ⟨by unfold xNp; decide +kernel, ⟨by decide, by decide⟩, q2799, Or.inl q2797⟩⟩
theorem cvX11_88_X3 : xCV "FiddleRow$Command" 88 "FiddleRow$Hall" iX3_setTarget 1 := ⟨mX3_setTarget, q2802, Or.inl ⟨by unfold xNp; decide +kernel, ⟨by decide, by decide⟩, q2803, Or.inl q2801⟩⟩
theorem cvX11_91_X3 : xCV "FiddleRow$Command" 91 "FiddleRow$Hall" iX3_passHours 1 := ⟨mX3_passHours, q2806, Or.inl ⟨by unfold xNp; decide +kernel, ⟨by decide, by decide⟩, q2807, Or.inl q2805⟩⟩
theorem fFX8_3_7 : xFF "FiddleRow$Parser" 3 7 7 (.object "FiddleRow") := ⟨_, TX8, 8, "FiddleRow$Parser", tyX8, ⟨rfl, in_X8, tyX8_ok, nmX8⟩, by decide, rfl, rfl, rfl, Or.inl rfl, q2045⟩
theorem fgX8_3_7 : xFL "FiddleRow$Parser" 3 7 7 := ⟨_, TX8, 8, "FiddleRow$Parser", rfl, by decide, in_X8, Or.inl rfl, Or.inl q2045⟩
theorem fgX8_15_0 : xFL "FiddleRow$Parser" 15 0 2 := ⟨_, TX1, 7, "FiddleRow", rfl, by decide, in_X1, Or.inl rfl, Or.inr ⟨_, q1980⟩⟩
theorem fFX8_19_7 : xFF "FiddleRow$Parser" 19 7 0 .int := ⟨_, TX8, 8, "FiddleRow$Parser", tyX8, ⟨rfl, in_X8, tyX8_ok, nmX8⟩, by decide, rfl, rfl, rfl, Or.inl rfl, q2038⟩
theorem fpX8_24_7 : xFP "FiddleRow$Parser" 24 7 5 (.object "java/lang/String") := ⟨_, TX8, 8, "FiddleRow$Parser", tyX8, ⟨rfl, in_X8, tyX8_ok, nmX8⟩, by decide, rfl, rfl, Or.inl rfl, Or.inl q2043⟩
theorem fpX8_34_7 : xFP "FiddleRow$Parser" 34 7 6 (.object "FiddleRow$Token") := ⟨_, TX8, 8, "FiddleRow$Parser", tyX8, ⟨rfl, in_X8, tyX8_ok, nmX8⟩, by decide, rfl, rfl, Or.inl rfl, Or.inl q2044⟩
theorem cvX8_37_X8 : xCV "FiddleRow$Parser" 37 "FiddleRow$Parser" iX8_advanceToken 0 := ⟨mX8_advanceToken, q2018, Or.inl ⟨by unfold xNp; decide +kernel, ⟨by decide, by decide⟩, qs19, Or.inl q2016⟩⟩
theorem fgX8_44_7 : xFL "FiddleRow$Parser" 44 7 1 := ⟨_, TX8, 8, "FiddleRow$Parser", rfl, by decide, in_X8, Or.inl rfl, Or.inl q2039⟩
theorem cvX8_47_X8 : xCV "FiddleRow$Parser" 47 "FiddleRow$Parser" iX8_byteAt 1 := ⟨mX8_byteAt, q2022, Or.inl ⟨by unfold xNp; decide +kernel, ⟨by decide, by decide⟩, qs20, Or.inl q2020⟩⟩
theorem fpX8_44_7 : xFP "FiddleRow$Parser" 44 7 1 .int := ⟨_, TX8, 8, "FiddleRow$Parser", tyX8, ⟨rfl, in_X8, tyX8_ok, nmX8⟩, by decide, rfl, rfl, Or.inl rfl, Or.inl q2039⟩
theorem fpX8_51_7 : xFP "FiddleRow$Parser" 51 7 2 .int := ⟨_, TX8, 8, "FiddleRow$Parser", tyX8, ⟨rfl, in_X8, tyX8_ok, nmX8⟩, by decide, rfl, rfl, Or.inl rfl, Or.inl q2040⟩
theorem csX8_54 : xCS "FiddleRow$Parser" 54 iX1_isIn 3 := ⟨mX1_isIn, by unfold xNp; decide +kernel, ⟨by decide, by decide⟩, q2025, Or.inr ⟨_, q2024⟩⟩
theorem nwX8_58 : xNW "FiddleRow$Parser" 58 14 4 [.null, .int 0, .int 0, .int 0] := ⟨_, TJ14, tyJ14, ⟨rfl, in_J14, tyJ14_ok, nmJ14⟩, q2027, q376, q147, fun j hj => by
  rcases (by omega : j = 0 ∨ j = 1 ∨ j = 2 ∨ j = 3) with rfl | rfl | rfl | rfl <;> rfl⟩
theorem ciX8_60 : xCI "FiddleRow$Parser" 60 iJ14_init 0 := ⟨mJ14_init, rfl, q379, by unfold xNp; decide +kernel, ⟨by decide, by decide⟩, q378, Or.inl q2028⟩
theorem cvX8_61_J14 : xCV "FiddleRow$Parser" 61 "java/lang/StringBuilder" iJ14_append_6 1 := ⟨mJ14_append_6, q813, Or.inl ⟨by unfold xNp; decide +kernel, ⟨by decide, by decide⟩, q814, Or.inl q2029⟩⟩
theorem cvX8_65_J14 : xCV "FiddleRow$Parser" 65 "java/lang/StringBuilder" iJ14_toString 0 := ⟨mJ14_toString, q555, Or.inl ⟨by unfold xNp; decide +kernel, ⟨by decide, by decide⟩, q556, Or.inl q2030⟩⟩
theorem fpX8_72_7 : xFP "FiddleRow$Parser" 72 7 3 .int := ⟨_, TX8, 8, "FiddleRow$Parser", tyX8, ⟨rfl, in_X8, tyX8_ok, nmX8⟩, by decide, rfl, rfl, Or.inl rfl, Or.inl q2041⟩
theorem fgX8_72_7 : xFL "FiddleRow$Parser" 72 7 3 := ⟨_, TX8, 8, "FiddleRow$Parser", rfl, by decide, in_X8, Or.inl rfl, Or.inl q2041⟩
theorem csX8_75 : xCS "FiddleRow$Parser" 75 iJ18_min 2 := ⟨mJ18_min, by unfold xNp; decide +kernel, ⟨by decide, by decide⟩, q450, Or.inl q2033⟩
theorem fgX8_19_7 : xFL "FiddleRow$Parser" 19 7 0 := ⟨_, TX8, 8, "FiddleRow$Parser", rfl, by decide, in_X8, Or.inl rfl, Or.inl q2038⟩
theorem fgX8_40_0 : xFL "FiddleRow$Parser" 40 0 1 := ⟨_, TX1, 7, "FiddleRow", rfl, by decide, in_X1, Or.inl rfl, Or.inr ⟨_, q1978⟩⟩
theorem cvX8_124_X8 : xCV "FiddleRow$Parser" 124 "FiddleRow$Parser" iX8_isWord 1 := ⟨mX8_isWord, q2070, Or.inl ⟨by unfold xNp; decide +kernel, ⟨by decide, by decide⟩, qs21, Or.inl q2068⟩⟩
theorem cvX8_102_X8 : xCV "FiddleRow$Parser" 102 "FiddleRow$Parser" iX8_require 2 := ⟨mX8_require, q2075, Or.inl ⟨by unfold xNp; decide +kernel, ⟨by decide, by decide⟩, qs22, Or.inl q2073⟩⟩
theorem cvX8_109_X8 : xCV "FiddleRow$Parser" 109 "FiddleRow$Parser" iX8_number 2 := ⟨mX8_number, q2107, Or.inl ⟨by unfold xNp; decide +kernel, ⟨by decide, by decide⟩, qs23, Or.inl q2105⟩⟩
theorem nwX8_128 : xNW "FiddleRow$Parser" 128 2 18 [.int 0, .int 0, .int 0, .int 0, .int 0, .int 0, .int 0, .int 0, .int 0, .int 0, .int 0, .int 0, .int 0, .null, .null, .null, .null, .null] := ⟨_, TX3, tyX3, ⟨rfl, in_X3, tyX3_ok, nmX3⟩, q2109, q212, q132, fun j hj => by
  rcases (by omega : j = 0 ∨ j = 1 ∨ j = 2 ∨ j = 3 ∨ j = 4 ∨ j = 5 ∨ j = 6 ∨ j = 7 ∨ j = 8 ∨ j = 9 ∨ j = 10 ∨ j = 11 ∨ j = 12 ∨ j = 13 ∨ j = 14 ∨ j = 15 ∨ j = 16 ∨ j = 17) with rfl | rfl | rfl | rfl | rfl | rfl | rfl | rfl | rfl | rfl | rfl | rfl | rfl | rfl | rfl | rfl | rfl | rfl <;> rfl⟩
theorem ciX8_130 : xCI "FiddleRow$Parser" 130 iX3_init 4 := ⟨mX3_init, rfl, q215, by unfold xNp; decide +kernel, ⟨by decide, by decide⟩, q214, Or.inl q2110⟩
theorem fgX8_133_2 : xFL "FiddleRow$Parser" 133 2 13 := ⟨_, TX3, 18, "FiddleRow$Hall", rfl, by decide, in_X3, Or.inl rfl, Or.inr ⟨_, q1183⟩⟩
theorem cvX8_137_X8 : xCV "FiddleRow$Parser" 137 "FiddleRow$Parser" iX8_sign 1 := ⟨mX8_sign, q2113, Or.inl ⟨by unfold xNp; decide +kernel, ⟨by decide, by decide⟩, qs24, Or.inl q2111⟩⟩
theorem cvX8_141_X8 : xCV "FiddleRow$Parser" 141 "FiddleRow$Parser" iX8_fiddler 1 := ⟨mX8_fiddler, q2121, Or.inl ⟨by unfold xNp; decide +kernel, ⟨by decide, by decide⟩, qs26, Or.inl q2119⟩⟩
theorem fgX8_34_7 : xFL "FiddleRow$Parser" 34 7 6 := ⟨_, TX8, 8, "FiddleRow$Parser", rfl, by decide, in_X8, Or.inl rfl, Or.inl q2044⟩
theorem fgX8_24_7 : xFL "FiddleRow$Parser" 24 7 5 := ⟨_, TX8, 8, "FiddleRow$Parser", rfl, by decide, in_X8, Or.inl rfl, Or.inl q2043⟩
theorem cvX8_92_J15 : xCV "FiddleRow$Parser" 92 "java/lang/String" iJ15_equals 1 := ⟨mJ15_equals, q1828, Or.inl ⟨by unfold xNp; decide +kernel, ⟨by decide, by decide⟩, q4248, Or.inl q2072⟩⟩
theorem nwX8_87 : xNW "FiddleRow$Parser" 87 8 8 [.null, .null, .null, .null, .null, .int 0, .int 0, .int 0] := ⟨_, TX9, tyX9, ⟨rfl, in_X9, tyX9_ok, nmX9⟩, q2077, q2078, q179, fun j hj => by
  rcases (by omega : j = 0 ∨ j = 1 ∨ j = 2 ∨ j = 3 ∨ j = 4 ∨ j = 5 ∨ j = 6 ∨ j = 7) with rfl | rfl | rfl | rfl | rfl | rfl | rfl | rfl <;> rfl⟩
theorem fgX8_51_7 : xFL "FiddleRow$Parser" 51 7 2 := ⟨_, TX8, 8, "FiddleRow$Parser", rfl, by decide, in_X8, Or.inl rfl, Or.inl q2040⟩
theorem ciX8_89 : xCI "FiddleRow$Parser" 89 iX9_init 2 := ⟨mX9_init, rfl, q2088, by unfold xNp; decide +kernel, ⟨by decide, by decide⟩, q2087, Or.inl q2086⟩
theorem cvX8_98_X8 : xCV "FiddleRow$Parser" 98 "FiddleRow$Parser" iX8_isSign 1 := ⟨mX8_isSign, q2117, Or.inl ⟨by unfold xNp; decide +kernel, ⟨by decide, by decide⟩, qs25, Or.inl q2115⟩⟩
theorem fgX8_146_2 : xFL "FiddleRow$Parser" 146 2 14 := ⟨_, TX3, 18, "FiddleRow$Hall", rfl, by decide, in_X3, Or.inl rfl, Or.inr ⟨_, q1185⟩⟩
theorem cvX8_150_J2 : xCV "FiddleRow$Parser" 150 "java/util/ArrayList" iJ2_size 0 := ⟨mJ2_size, q1242, Or.inl ⟨by unfold xNp; decide +kernel, ⟨by decide, by decide⟩, q1243, Or.inl q2124⟩⟩
theorem cvX8_115_X8 : xCV "FiddleRow$Parser" 115 "FiddleRow$Parser" iX8_peekName 0 := ⟨mX8_peekName, q2127, Or.inl ⟨by unfold xNp; decide +kernel, ⟨by decide, by decide⟩, qs27, Or.inl q2125⟩⟩
theorem cvX8_155_X3 : xCV "FiddleRow$Parser" 155 "FiddleRow$Hall" iX3_find 1 := ⟨mX3_find, q2131, Or.inl ⟨by unfold xNp; decide +kernel, ⟨by decide, by decide⟩, q2132, Or.inl q2130⟩⟩
theorem cvX8_158_X8 : xCV "FiddleRow$Parser" 158 "FiddleRow$Parser" iX8_signedNumber 2 := ⟨mX8_signedNumber, q2149, Or.inl ⟨by unfold xNp; decide +kernel, ⟨by decide, by decide⟩, qs28, Or.inl q2147⟩⟩
theorem cvX8_163_X3 : xCV "FiddleRow$Parser" 163 "FiddleRow$Hall" iX3_addFiddler 4 := ⟨mX3_addFiddler, q1236, Or.inl ⟨by unfold xNp; decide +kernel, ⟨by decide, by decide⟩, q1237, Or.inl q2156⟩⟩
theorem cvX8_112_J15 : xCV "FiddleRow$Parser" 112 "java/lang/String" iJ15_length 0 := ⟨mJ15_length, q487, Or.inl ⟨by unfold xNp; decide +kernel, ⟨by decide, by decide⟩, q488, Or.inl q2129⟩⟩
theorem cvX8_106_X8 : xCV "FiddleRow$Parser" 106 "FiddleRow$Parser" iX8_accepts 1 := ⟨mX8_accepts, q2153, Or.inl ⟨by unfold xNp; decide +kernel, ⟨by decide, by decide⟩, qs29, Or.inl q2151⟩⟩
theorem nwX8_167 : xNW "FiddleRow$Parser" 167 9 2 [.null, .int 0] := ⟨_, TX10, tyX10, ⟨rfl, in_X10, tyX10_ok, nmX10⟩, q2170, q2171, q180, fun j hj => by
  rcases (by omega : j = 0 ∨ j = 1) with rfl | rfl <;> rfl⟩
theorem ciX8_169 : xCI "FiddleRow$Parser" 169 iX10_init 1 := ⟨mX10_init, rfl, q2174, by unfold xNp; decide +kernel, ⟨by decide, by decide⟩, q2173, Or.inl q2172⟩
theorem fgX8_171_9 : xFL "FiddleRow$Parser" 171 9 0 := ⟨_, TX10, 2, "FiddleRow$Repeat", rfl, by decide, in_X10, Or.inl rfl, Or.inr ⟨_, q2179⟩⟩
theorem cvX8_174_X8 : xCV "FiddleRow$Parser" 174 "FiddleRow$Parser" iX8_part 1 := ⟨mX8_part, q2188, Or.inl ⟨by unfold xNp; decide +kernel, ⟨by decide, by decide⟩, qs31, Or.inl q2186⟩⟩
theorem cvX8_178_J2 : xCV "FiddleRow$Parser" 178 "java/util/ArrayList" iJ2_add 1 := ⟨mJ2_add, q1286, Or.inl ⟨by unfold xNp; decide +kernel, ⟨by decide, by decide⟩, q1287, Or.inl q2209⟩⟩
theorem cvX8_204_X8 : xCV "FiddleRow$Parser" 204 "FiddleRow$Parser" iX8_isCommand 0 := ⟨mX8_isCommand, q2192, Or.inl ⟨by unfold xNp; decide +kernel, ⟨by decide, by decide⟩, qs32, Or.inl q2190⟩⟩
theorem fgX8_208_7 : xFL "FiddleRow$Parser" 208 7 4 := ⟨_, TX8, 8, "FiddleRow$Parser", rfl, by decide, in_X8, Or.inl rfl, Or.inl q2042⟩
theorem fpX8_208_7 : xFP "FiddleRow$Parser" 208 7 4 .int := ⟨_, TX8, 8, "FiddleRow$Parser", tyX8, ⟨rfl, in_X8, tyX8_ok, nmX8⟩, by decide, rfl, rfl, Or.inl rfl, Or.inl q2042⟩
theorem cvX8_211_X8 : xCV "FiddleRow$Parser" 211 "FiddleRow$Parser" iX8_repeat 1 := ⟨mX8_repeat, q2207, Or.inl ⟨by unfold xNp; decide +kernel, ⟨by decide, by decide⟩, qs33, Or.inl q2205⟩⟩
theorem cvX8_214_X8 : xCV "FiddleRow$Parser" 214 "FiddleRow$Parser" iX8_command 1 := ⟨mX8_command, q2212, Or.inl ⟨by unfold xNp; decide +kernel, ⟨by decide, by decide⟩, qs34, Or.inl q2210⟩⟩
theorem cvX8_181_J15 : xCV "FiddleRow$Parser" 181 "java/lang/String" iJ15_hashCode 0 := ⟨mJ15_hashCode, q1396, Or.inl ⟨by unfold xNp; decide +kernel, ⟨by decide, by decide⟩, q4249, Or.inl q2194⟩⟩
theorem cvX8_218_X8 : xCV "FiddleRow$Parser" 218 "FiddleRow$Parser" iX8_name 0 := ⟨mX8_name, q2216, Or.inl ⟨by unfold xNp; decide +kernel, ⟨by decide, by decide⟩, qs35, Or.inl q2214⟩⟩
theorem cvX8_221_X8 : xCV "FiddleRow$Parser" 221 "FiddleRow$Parser" iX8_string 0 := ⟨mX8_string, q2220, Or.inl ⟨by unfold xNp; decide +kernel, ⟨by decide, by decide⟩, qs36, Or.inl q2218⟩⟩
theorem nwX8_224 : xNW "FiddleRow$Parser" 224 10 6 [.null, .null, .null, .int 0, .int 0, .null] := ⟨_, TX11, tyX11, ⟨rfl, in_X11, tyX11_ok, nmX11⟩, q2231, q2232, q181, fun j hj => by
  rcases (by omega : j = 0 ∨ j = 1 ∨ j = 2 ∨ j = 3 ∨ j = 4 ∨ j = 5) with rfl | rfl | rfl | rfl | rfl | rfl <;> rfl⟩
theorem ciX8_226 : xCI "FiddleRow$Parser" 226 iX11_init 6 := ⟨mX11_init, rfl, q2235, by unfold xNp; decide +kernel, ⟨by decide, by decide⟩, q2234, Or.inl q2233⟩
theorem csX8_118 : xCS "FiddleRow$Parser" 118 iX1_stringNamed 1 := ⟨mX1_stringNamed, by unfold xNp; decide +kernel, ⟨by decide, by decide⟩, q2223, Or.inr ⟨_, q2222⟩⟩
theorem nwX1_51 : xNW "FiddleRow" 51 1 3 [.null, .null, .null] := ⟨_, TX2, tyX2, ⟨rfl, in_X2, tyX2_ok, nmX2⟩, q206, q207, q131, fun j hj => by
  rcases (by omega : j = 0 ∨ j = 1 ∨ j = 2) with rfl | rfl | rfl <;> rfl⟩
theorem csX1_59 : xCS "FiddleRow" 59 iX1_firstHall 0 := ⟨mX1_firstHall, by unfold xNp; decide +kernel, ⟨by decide, by decide⟩, q209, Or.inl q208⟩
theorem ciX1_63 : xCI "FiddleRow" 63 iX2_init 1 := ⟨mX2_init, rfl, q1924, by unfold xNp; decide +kernel, ⟨by decide, by decide⟩, q1923, Or.inl q1922⟩
theorem fFX1_46_0 : xFF "FiddleRow" 46 0 0 (.object "FiddleRow$History") := ⟨_, TX1, 7, "FiddleRow", tyX1, ⟨rfl, in_X1, tyX1_ok, nmX1⟩, by decide, rfl, rfl, rfl, Or.inl rfl, q1977⟩
theorem fFX1_66_0 : xFF "FiddleRow" 66 0 1 (.array .byte) := ⟨_, TX1, 7, "FiddleRow", tyX1, ⟨rfl, in_X1, tyX1_ok, nmX1⟩, by decide, rfl, rfl, rfl, Or.inl rfl, q1979⟩
theorem fpX1_70_0 : xFP "FiddleRow" 70 0 4 .int := ⟨_, TX1, 7, "FiddleRow", tyX1, ⟨rfl, in_X1, tyX1_ok, nmX1⟩, by decide, rfl, rfl, Or.inl rfl, Or.inl q1983⟩
theorem nwX1_74 : xNW "FiddleRow" 74 14 4 [.null, .int 0, .int 0, .int 0] := ⟨_, TJ14, tyJ14, ⟨rfl, in_J14, tyJ14_ok, nmJ14⟩, q1975, q376, q147, fun j hj => by
  rcases (by omega : j = 0 ∨ j = 1 ∨ j = 2 ∨ j = 3) with rfl | rfl | rfl | rfl <;> rfl⟩
theorem ciX1_76 : xCI "FiddleRow" 76 iJ14_init 0 := ⟨mJ14_init, rfl, q379, by unfold xNp; decide +kernel, ⟨by decide, by decide⟩, q378, Or.inl q1976⟩
theorem fFX1_77_0 : xFF "FiddleRow" 77 0 6 (.object "java/lang/StringBuilder") := ⟨_, TX1, 7, "FiddleRow", tyX1, ⟨rfl, in_X1, tyX1_ok, nmX1⟩, by decide, rfl, rfl, rfl, Or.inl rfl, q1986⟩
theorem nwX1_13 : xNW "FiddleRow" 13 2 18 [.int 0, .int 0, .int 0, .int 0, .int 0, .int 0, .int 0, .int 0, .int 0, .int 0, .int 0, .int 0, .int 0, .null, .null, .null, .null, .null] := ⟨_, TX3, tyX3, ⟨rfl, in_X3, tyX3_ok, nmX3⟩, q211, q212, q132, fun j hj => by
  rcases (by omega : j = 0 ∨ j = 1 ∨ j = 2 ∨ j = 3 ∨ j = 4 ∨ j = 5 ∨ j = 6 ∨ j = 7 ∨ j = 8 ∨ j = 9 ∨ j = 10 ∨ j = 11 ∨ j = 12 ∨ j = 13 ∨ j = 14 ∨ j = 15 ∨ j = 16 ∨ j = 17) with rfl | rfl | rfl | rfl | rfl | rfl | rfl | rfl | rfl | rfl | rfl | rfl | rfl | rfl | rfl | rfl | rfl | rfl <;> rfl⟩
theorem ciX1_15 : xCI "FiddleRow" 15 iX3_init 4 := ⟨mX3_init, rfl, q215, by unfold xNp; decide +kernel, ⟨by decide, by decide⟩, q214, Or.inl q213⟩
theorem fgX1_18_2 : xFL "FiddleRow" 18 2 13 := ⟨_, TX3, 18, "FiddleRow$Hall", rfl, by decide, in_X3, Or.inl rfl, Or.inr ⟨_, q1182⟩⟩
theorem csX1_32 : xCS "FiddleRow" 32 iX1_cents 1 := ⟨mX1_cents, by unfold xNp; decide +kernel, ⟨by decide, by decide⟩, q1233, Or.inl q1232⟩
theorem cvX1_36_X3 : xCV "FiddleRow" 36 "FiddleRow$Hall" iX3_addFiddler 4 := ⟨mX3_addFiddler, q1236, Or.inl ⟨by unfold xNp; decide +kernel, ⟨by decide, by decide⟩, q1237, Or.inl q1235⟩⟩
theorem fgX1_46_0 : xFL "FiddleRow" 46 0 0 := ⟨_, TX1, 7, "FiddleRow", rfl, by decide, in_X1, Or.inl rfl, Or.inl q1977⟩
theorem nwX1_132 : xNW "FiddleRow" 132 7 8 [.int 0, .int 0, .int 0, .int 0, .int 0, .null, .null, .null] := ⟨_, TX8, tyX8, ⟨rfl, in_X8, tyX8_ok, nmX8⟩, q2007, q2008, q176, fun j hj => by
  rcases (by omega : j = 0 ∨ j = 1 ∨ j = 2 ∨ j = 3 ∨ j = 4 ∨ j = 5 ∨ j = 6 ∨ j = 7) with rfl | rfl | rfl | rfl | rfl | rfl | rfl | rfl <;> rfl⟩
theorem ciX1_134 : xCI "FiddleRow" 134 iX8_init 1 := ⟨mX8_init, rfl, q2011, by unfold xNp; decide +kernel, ⟨by decide, by decide⟩, q2010, Or.inl q2009⟩
theorem cvX1_137_X8 : xCV "FiddleRow" 137 "FiddleRow$Parser" iX8_setup 0 := ⟨mX8_setup, q2064, Or.inl ⟨by unfold xNp; decide +kernel, ⟨by decide, by decide⟩, q2065, Or.inl q2063⟩⟩
theorem cvX1_140_X2 : xCV "FiddleRow" 140 "FiddleRow$History" iX2_begin 1 := ⟨mX2_begin, q1948, Or.inl ⟨by unfold xNp; decide +kernel, ⟨by decide, by decide⟩, q1949, Or.inl q2157⟩⟩
theorem cvX1_143_X1 : xCV "FiddleRow" 143 "FiddleRow" iX1_finish 3 := ⟨mX1_finish, q2160, Or.inl ⟨by unfold xNp; decide +kernel, ⟨by decide, by decide⟩, qs30, Or.inl q2158⟩⟩
theorem fgX1_149_8 : xFL "FiddleRow" 149 8 6 := ⟨_, TX9, 8, "FiddleRow$ParseError", rfl, by decide, in_X9, Or.inl rfl, Or.inr ⟨_, q2096⟩⟩
theorem fgX1_152_8 : xFL "FiddleRow" 152 8 7 := ⟨_, TX9, 8, "FiddleRow$ParseError", rfl, by decide, in_X9, Or.inl rfl, Or.inr ⟨_, q2098⟩⟩
theorem fpX1_81_0 : xFP "FiddleRow" 81 0 2 .int := ⟨_, TX1, 7, "FiddleRow", tyX1, ⟨rfl, in_X1, tyX1_ok, nmX1⟩, by decide, rfl, rfl, Or.inl rfl, Or.inl q1981⟩
theorem fpX1_111_0 : xFP "FiddleRow" 111 0 3 .int := ⟨_, TX1, 7, "FiddleRow", tyX1, ⟨rfl, in_X1, tyX1_ok, nmX1⟩, by decide, rfl, rfl, Or.inl rfl, Or.inl q1982⟩
theorem cvX1_155_X8 : xCV "FiddleRow" 155 "FiddleRow$Parser" iX8_script 0 := ⟨mX8_script, q2167, Or.inl ⟨by unfold xNp; decide +kernel, ⟨by decide, by decide⟩, q2168, Or.inl q2166⟩⟩
theorem fpX1_159_0 : xFP "FiddleRow" 159 0 5 .int := ⟨_, TX1, 7, "FiddleRow", tyX1, ⟨rfl, in_X1, tyX1_ok, nmX1⟩, by decide, rfl, rfl, Or.inl rfl, Or.inl q1985⟩
theorem cvX1_162_X1 : xCV "FiddleRow" 162 "FiddleRow" iX1_hall 0 := ⟨mX1_hall, q2258, Or.inl ⟨by unfold xNp; decide +kernel, ⟨by decide, by decide⟩, qs37, Or.inl q2256⟩⟩
theorem cvX1_165_X3 : xCV "FiddleRow" 165 "FiddleRow$Hall" iX3_copy 0 := ⟨mX3_copy, q2261, Or.inl ⟨by unfold xNp; decide +kernel, ⟨by decide, by decide⟩, q2262, Or.inl q2260⟩⟩
theorem cvX1_168_X10 : xCV "FiddleRow" 168 "FiddleRow$Repeat" iX10_execute 1 := ⟨mX10_execute, q2588, Or.inl ⟨by unfold xNp; decide +kernel, ⟨by decide, by decide⟩, q2589, Or.inl q2587⟩⟩
theorem cvX1_174_X2 : xCV "FiddleRow" 174 "FiddleRow$History" iX2_keep 1 := ⟨mX2_keep, q2824, Or.inl ⟨by unfold xNp; decide +kernel, ⟨by decide, by decide⟩, q2825, Or.inl q2823⟩⟩
theorem fgX1_159_0 : xFL "FiddleRow" 159 0 5 := ⟨_, TX1, 7, "FiddleRow", rfl, by decide, in_X1, Or.inl rfl, Or.inl q1985⟩
theorem cvX1_114_J15 : xCV "FiddleRow" 114 "java/lang/String" iJ15_hashCode 0 := ⟨mJ15_hashCode, q1396, Or.inl ⟨by unfold xNp; decide +kernel, ⟨by decide, by decide⟩, q4249, Or.inl q2225⟩⟩
theorem cvX1_122_J15 : xCV "FiddleRow" 122 "java/lang/String" iJ15_equals 1 := ⟨mJ15_equals, q1828, Or.inl ⟨by unfold xNp; decide +kernel, ⟨by decide, by decide⟩, q4248, Or.inl q2227⟩⟩
theorem fgX1_50_1 : xFL "FiddleRow" 50 1 2 := ⟨_, TX2, 3, "FiddleRow$History", rfl, by decide, in_X2, Or.inl rfl, Or.inr ⟨_, q1967⟩⟩
theorem ciX1_3 : xCI "FiddleRow" 3 iJ47_init_2 0 := ⟨mJ47_init_2, rfl, q2734, by unfold xNp; decide +kernel, ⟨by decide, by decide⟩, q2733, Or.inl q2732⟩
theorem ciX1_9 : xCI "FiddleRow" 9 iJ12_init_3 0 := ⟨mJ12_init_3, rfl, q2750, by unfold xNp; decide +kernel, ⟨by decide, by decide⟩, q2749, Or.inl q2748⟩
theorem ciX1_12 : xCI "FiddleRow" 12 iJ29_init_2 0 := ⟨mJ29_init_2, rfl, q2758, by unfold xNp; decide +kernel, ⟨by decide, by decide⟩, q2757, Or.inl q2756⟩
theorem fgX1_111_0 : xFL "FiddleRow" 111 0 3 := ⟨_, TX1, 7, "FiddleRow", rfl, by decide, in_X1, Or.inl rfl, Or.inl q1982⟩
theorem fgX1_70_0 : xFL "FiddleRow" 70 0 4 := ⟨_, TX1, 7, "FiddleRow", rfl, by decide, in_X1, Or.inl rfl, Or.inl q1983⟩
theorem fgX1_177_2 : xFL "FiddleRow" 177 2 0 := ⟨_, TX3, 18, "FiddleRow$Hall", rfl, by decide, in_X3, Or.inl rfl, Or.inr ⟨_, q1156⟩⟩
theorem fgX1_180_2 : xFL "FiddleRow" 180 2 1 := ⟨_, TX3, 18, "FiddleRow$Hall", rfl, by decide, in_X3, Or.inl rfl, Or.inr ⟨_, q1158⟩⟩
theorem fgX1_183_2 : xFL "FiddleRow" 183 2 2 := ⟨_, TX3, 18, "FiddleRow$Hall", rfl, by decide, in_X3, Or.inl rfl, Or.inr ⟨_, q1160⟩⟩
theorem fgX1_186_2 : xFL "FiddleRow" 186 2 3 := ⟨_, TX3, 18, "FiddleRow$Hall", rfl, by decide, in_X3, Or.inl rfl, Or.inr ⟨_, q1162⟩⟩
theorem fgX1_189_2 : xFL "FiddleRow" 189 2 4 := ⟨_, TX3, 18, "FiddleRow$Hall", rfl, by decide, in_X3, Or.inl rfl, Or.inr ⟨_, q1164⟩⟩
theorem fgX1_195_2 : xFL "FiddleRow" 195 2 14 := ⟨_, TX3, 18, "FiddleRow$Hall", rfl, by decide, in_X3, Or.inl rfl, Or.inr ⟨_, q1186⟩⟩
theorem cvX1_199_J2 : xCV "FiddleRow" 199 "java/util/ArrayList" iJ2_size 0 := ⟨mJ2_size, q1242, Or.inl ⟨by unfold xNp; decide +kernel, ⟨by decide, by decide⟩, q1243, Or.inl q2901⟩⟩
theorem fgX1_204_2 : xFL "FiddleRow" 204 2 15 := ⟨_, TX3, 18, "FiddleRow$Hall", rfl, by decide, in_X3, Or.inl rfl, Or.inr ⟨_, q1188⟩⟩
theorem csX1_96 : xCS "FiddleRow" 96 iX1_isIn 3 := ⟨mX1_isIn, by unfold xNp; decide +kernel, ⟨by decide, by decide⟩, q2025, Or.inl q2910⟩
theorem cvX1_207_J2 : xCV "FiddleRow" 207 "java/util/ArrayList" iJ2_get 1 := ⟨mJ2_get, q2135, Or.inl ⟨by unfold xNp; decide +kernel, ⟨by decide, by decide⟩, q2136, Or.inl q2911⟩⟩
theorem fgX1_213_3 : xFL "FiddleRow" 213 3 0 := ⟨_, TX4, 7, "FiddleRow$Fiddler", rfl, by decide, in_X4, Or.inl rfl, Or.inr ⟨_, q1251⟩⟩
theorem cvX1_224_X1 : xCV "FiddleRow" 224 "FiddleRow" iX1_bufferText 0 := ⟨mX1_bufferText, q2919, Or.inl ⟨by unfold xNp; decide +kernel, ⟨by decide, by decide⟩, qs46, Or.inl q2917⟩⟩
theorem cvX1_227_X3 : xCV "FiddleRow" 227 "FiddleRow$Hall" iX3_find 1 := ⟨mX3_find, q2131, Or.inl ⟨by unfold xNp; decide +kernel, ⟨by decide, by decide⟩, q2132, Or.inl q2923⟩⟩
theorem fgX1_81_0 : xFL "FiddleRow" 81 0 2 := ⟨_, TX1, 7, "FiddleRow", rfl, by decide, in_X1, Or.inl rfl, Or.inl q1981⟩
theorem fgX1_66_0 : xFL "FiddleRow" 66 0 1 := ⟨_, TX1, 7, "FiddleRow", rfl, by decide, in_X1, Or.inl rfl, Or.inl q1979⟩
theorem cvX1_103_J14 : xCV "FiddleRow" 103 "java/lang/StringBuilder" iJ14_append_6 1 := ⟨mJ14_append_6, q813, Or.inl ⟨by unfold xNp; decide +kernel, ⟨by decide, by decide⟩, q814, Or.inl q2921⟩⟩
theorem cvX1_107_J14 : xCV "FiddleRow" 107 "java/lang/StringBuilder" iJ14_toString 0 := ⟨mJ14_toString, q555, Or.inl ⟨by unfold xNp; decide +kernel, ⟨by decide, by decide⟩, q556, Or.inl q2922⟩⟩
theorem nwX1_273 : xNW "FiddleRow" 273 12 12 [.null, .null, .int 0, .int 0, .int 0, .float 0, .null, .null, .null, .null, .int 0, .int 0] := ⟨_, TJ5, tyJ5, ⟨rfl, in_J5, tyJ5_ok, nmJ5⟩, q2928, q248, q138, fun j hj => by
  rcases (by omega : j = 0 ∨ j = 1 ∨ j = 2 ∨ j = 3 ∨ j = 4 ∨ j = 5 ∨ j = 6 ∨ j = 7 ∨ j = 8 ∨ j = 9 ∨ j = 10 ∨ j = 11) with rfl | rfl | rfl | rfl | rfl | rfl | rfl | rfl | rfl | rfl | rfl | rfl <;> rfl⟩
theorem ciX1_308 : xCI "FiddleRow" 308 iJ5_init 0 := ⟨mJ5_init, rfl, q251, by unfold xNp; decide +kernel, ⟨by decide, by decide⟩, q250, Or.inl q2929⟩
theorem cvX1_309_J2 : xCV "FiddleRow" 309 "java/util/ArrayList" iJ2_iterator 0 := ⟨mJ2_iterator, q2270, Or.inl ⟨by unfold xNp; decide +kernel, ⟨by decide, by decide⟩, q2271, Or.inl q2930⟩⟩
theorem cfX1_284_J38 : xCF "FiddleRow" 284 "java/util/ArrayList$Itr" iJ38_hasNext 0 := ⟨mJ38_hasNext, q2305, ⟨"java/util/Iterator", "hasNext", "()Z"⟩, by unfold xNp; decide +kernel, ⟨by decide, by decide⟩, q2932, List.mem_of_getElem? (i := 17) rfl, q2303⟩
theorem cfX1_284_J43 : xCF "FiddleRow" 284 "java/util/LinkedHashMap$LinkedEntryIterator" iJ42_hasNext 0 := ⟨mJ42_hasNext, q2317, ⟨"java/util/Iterator", "hasNext", "()Z"⟩, by unfold xNp; decide +kernel, ⟨by decide, by decide⟩, q2932, List.mem_of_getElem? (i := 29) rfl, q2315⟩
theorem cfX1_284_J44 : xCF "FiddleRow" 284 "java/util/LinkedHashMap$LinkedKeyIterator" iJ42_hasNext 0 := ⟨mJ42_hasNext, q2317, ⟨"java/util/Iterator", "hasNext", "()Z"⟩, by unfold xNp; decide +kernel, ⟨by decide, by decide⟩, q2932, List.mem_of_getElem? (i := 33) rfl, q2321⟩
theorem cfX1_284_J51 : xCF "FiddleRow" 284 "java/util/LinkedHashMap$LinkedValueIterator" iJ42_hasNext 0 := ⟨mJ42_hasNext, q2317, ⟨"java/util/Iterator", "hasNext", "()Z"⟩, by unfold xNp; decide +kernel, ⟨by decide, by decide⟩, q2932, List.mem_of_getElem? (i := 37) rfl, q2324⟩
theorem cfX1_290_J38 : xCF "FiddleRow" 290 "java/util/ArrayList$Itr" iJ38_next 0 := ⟨mJ38_next, q2343, ⟨"java/util/Iterator", "next", "()Ljava/lang/Object;"⟩, by unfold xNp; decide +kernel, ⟨by decide, by decide⟩, q2934, List.mem_of_getElem? (i := 18) rfl, q2341⟩
theorem cfX1_290_J43 : xCF "FiddleRow" 290 "java/util/LinkedHashMap$LinkedEntryIterator" iJ43_next 0 := ⟨mJ43_next, q2363, ⟨"java/util/Iterator", "next", "()Ljava/lang/Object;"⟩, by unfold xNp; decide +kernel, ⟨by decide, by decide⟩, q2934, List.mem_of_getElem? (i := 30) rfl, q2361⟩
theorem cfX1_290_J44 : xCF "FiddleRow" 290 "java/util/LinkedHashMap$LinkedKeyIterator" iJ44_next 0 := ⟨mJ44_next, q2378, ⟨"java/util/Iterator", "next", "()Ljava/lang/Object;"⟩, by unfold xNp; decide +kernel, ⟨by decide, by decide⟩, q2934, List.mem_of_getElem? (i := 34) rfl, q2376⟩
theorem cfX1_290_J51 : xCF "FiddleRow" 290 "java/util/LinkedHashMap$LinkedValueIterator" iJ51_next 0 := ⟨mJ51_next, q2393, ⟨"java/util/Iterator", "next", "()Ljava/lang/Object;"⟩, by unfold xNp; decide +kernel, ⟨by decide, by decide⟩, q2934, List.mem_of_getElem? (i := 38) rfl, q2391⟩
theorem nwX1_310 : xNW "FiddleRow" 310 4 2 [.int 0, .int 0] := ⟨_, TX5, tyX5, ⟨rfl, in_X5, tyX5_ok, nmX5⟩, q2935, q1315, q166, fun j hj => by
  rcases (by omega : j = 0 ∨ j = 1) with rfl | rfl <;> rfl⟩
theorem ciX1_312 : xCI "FiddleRow" 312 iX5_init 2 := ⟨mX5_init, rfl, q1318, by unfold xNp; decide +kernel, ⟨by decide, by decide⟩, q1317, Or.inl q2936⟩
theorem fgX1_315_2 : xFL "FiddleRow" 315 2 16 := ⟨_, TX3, 18, "FiddleRow$Hall", rfl, by decide, in_X3, Or.inl rfl, Or.inr ⟨_, q1190⟩⟩
theorem cvX1_319_J5 : xCV "FiddleRow" 319 "java/util/LinkedHashMap" iJ5_get 1 := ⟨mJ5_get, q2672, Or.inl ⟨by unfold xNp; decide +kernel, ⟨by decide, by decide⟩, q2673, Or.inl q2937⟩⟩
theorem fgX1_259_5 : xFL "FiddleRow" 259 5 2 := ⟨_, TX6, 3, "FiddleRow$Peg", rfl, by decide, in_X6, Or.inl rfl, Or.inr ⟨_, q1344⟩⟩
theorem fgX1_248_5 : xFL "FiddleRow" 248 5 0 := ⟨_, TX6, 3, "FiddleRow$Peg", rfl, by decide, in_X6, Or.inl rfl, Or.inr ⟨_, q1338⟩⟩
theorem csX1_263 : xCS "FiddleRow" 263 iJ18_abs 1 := ⟨mJ18_abs, by unfold xNp; decide +kernel, ⟨by decide, by decide⟩, q2687, Or.inl q2939⟩
theorem csX1_322 : xCS "FiddleRow" 322 iJ23_valueOf 1 := ⟨mJ23_valueOf, by unfold xNp; decide +kernel, ⟨by decide, by decide⟩, q2941, Or.inl q2940⟩
theorem cvX1_328_J5 : xCV "FiddleRow" 328 "java/util/LinkedHashMap" iJ4_put 2 := ⟨mJ4_put, q1356, Or.inr ⟨⟨"java/util/LinkedHashMap", "put", "(Ljava/lang/Object;Ljava/lang/Object;)Ljava/lang/Object;"⟩, "java/util/HashMap", by unfold xNp; decide +kernel, ⟨by decide, by decide⟩, q2959, q1353, q1355, Or.inl q1354⟩⟩
theorem csX1_332 : xCS "FiddleRow" 332 iX1_keyOfGreatest 1 := ⟨mX1_keyOfGreatest, by unfold xNp; decide +kernel, ⟨by decide, by decide⟩, q2962, Or.inl q2961⟩
theorem fgX1_336_4 : xFL "FiddleRow" 336 4 0 := ⟨_, TX5, 2, "FiddleRow$StringKey", rfl, by decide, in_X5, Or.inl rfl, Or.inr ⟨_, q1321⟩⟩
theorem cvX1_272_J5 : xCV "FiddleRow" 272 "java/util/LinkedHashMap" iJ5_entrySet 0 := ⟨mJ5_entrySet, q2405, Or.inl ⟨by unfold xNp; decide +kernel, ⟨by decide, by decide⟩, q2406, Or.inl q2964⟩⟩
theorem cfX1_278_J39 : xCF "FiddleRow" 278 "java/util/LinkedHashMap$LinkedEntrySet" iJ39_iterator 0 := ⟨mJ39_iterator, q2464, ⟨"java/util/Set", "iterator", "()Ljava/util/Iterator;"⟩, by unfold xNp; decide +kernel, ⟨by decide, by decide⟩, q2966, List.mem_of_getElem? (i := 32) rfl, q2462⟩
theorem cfX1_278_J46 : xCF "FiddleRow" 278 "java/util/LinkedHashMap$LinkedKeySet" iJ46_iterator 0 := ⟨mJ46_iterator, q2495, ⟨"java/util/Set", "iterator", "()Ljava/util/Iterator;"⟩, by unfold xNp; decide +kernel, ⟨by decide, by decide⟩, q2966, List.mem_of_getElem? (i := 36) rfl, q2493⟩
theorem cfX1_278_J8 : xCF "FiddleRow" 278 "java/util/LinkedHashSet" iJ7_iterator 0 := ⟨mJ7_iterator, q2513, ⟨"java/util/Set", "iterator", "()Ljava/util/Iterator;"⟩, by unfold xNp; decide +kernel, ⟨by decide, by decide⟩, q2966, List.mem_of_getElem? (i := 41) rfl, q2511⟩
theorem cfX1_296_J32 : xCF "FiddleRow" 296 "java/util/LinkedHashMap$Entry" iJ31_getValue 0 := ⟨mJ31_getValue, q2563, ⟨"java/util/Map$Entry", "getValue", "()Ljava/lang/Object;"⟩, by unfold xNp; decide +kernel, ⟨by decide, by decide⟩, q2969, List.mem_of_getElem? (i := 28) rfl, q2568⟩
theorem cfX1_301_J14 : xCF "FiddleRow" 301 "java/lang/StringBuilder" iJ14_compareTo 1 := ⟨mJ14_compareTo, q1740, ⟨"java/lang/Comparable", "compareTo", "(Ljava/lang/Object;)I"⟩, by unfold xNp; decide +kernel, ⟨by decide, by decide⟩, q2972, List.mem_of_getElem? (i := 11) rfl, q1738⟩
theorem cfX1_301_J15 : xCF "FiddleRow" 301 "java/lang/String" iJ15_compareTo 1 := ⟨mJ15_compareTo, q1596, ⟨"java/lang/Comparable", "compareTo", "(Ljava/lang/Object;)I"⟩, by unfold xNp; decide +kernel, ⟨by decide, by decide⟩, q2972, List.mem_of_getElem? (i := 6) rfl, q1594⟩
theorem cfX1_301_J23 : xCF "FiddleRow" 301 "java/lang/Integer" iJ23_compareTo 1 := ⟨mJ23_compareTo, q1582, ⟨"java/lang/Comparable", "compareTo", "(Ljava/lang/Object;)I"⟩, by unfold xNp; decide +kernel, ⟨by decide, by decide⟩, q2972, List.mem_of_getElem? (i := 3) rfl, q1580⟩
theorem cfX1_305_J32 : xCF "FiddleRow" 305 "java/util/LinkedHashMap$Entry" iJ31_getKey 0 := ⟨mJ31_getKey, q2389, ⟨"java/util/Map$Entry", "getKey", "()Ljava/lang/Object;"⟩, by unfold xNp; decide +kernel, ⟨by decide, by decide⟩, q2974, List.mem_of_getElem? (i := 27) rfl, q2555⟩
theorem cvX1_341_J5 : xCV "FiddleRow" 341 "java/util/LinkedHashMap" iJ5_values 0 := ⟨mJ5_values, q2980, Or.inl ⟨by unfold xNp; decide +kernel, ⟨by decide, by decide⟩, q2981, Or.inl q2979⟩⟩
theorem csX1_345 : xCS "FiddleRow" 345 iX1_looser 2 := ⟨mX1_looser, by unfold xNp; decide +kernel, ⟨by decide, by decide⟩, q3002, Or.inl q3001⟩
theorem cfX1_338_J2 : xCF "FiddleRow" 338 "java/util/ArrayList" iJ2_iterator 0 := ⟨mJ2_iterator, q2270, ⟨"java/util/Collection", "iterator", "()Ljava/util/Iterator;"⟩, by unfold xNp; decide +kernel, ⟨by decide, by decide⟩, q3005, List.mem_of_getElem? (i := 16) rfl, q3035⟩
theorem cfX1_338_J36 : xCF "FiddleRow" 338 "java/util/ArrayDeque" iJ36_iterator 0 := ⟨mJ36_iterator, q3011, ⟨"java/util/Collection", "iterator", "()Ljava/util/Iterator;"⟩, by unfold xNp; decide +kernel, ⟨by decide, by decide⟩, q3005, List.mem_of_getElem? (i := 13) rfl, q3009⟩
theorem cfX1_338_J39 : xCF "FiddleRow" 338 "java/util/LinkedHashMap$LinkedEntrySet" iJ39_iterator 0 := ⟨mJ39_iterator, q2464, ⟨"java/util/Collection", "iterator", "()Ljava/util/Iterator;"⟩, by unfold xNp; decide +kernel, ⟨by decide, by decide⟩, q3005, List.mem_of_getElem? (i := 31) rfl, q3041⟩
theorem cfX1_338_J46 : xCF "FiddleRow" 338 "java/util/LinkedHashMap$LinkedKeySet" iJ46_iterator 0 := ⟨mJ46_iterator, q2495, ⟨"java/util/Collection", "iterator", "()Ljava/util/Iterator;"⟩, by unfold xNp; decide +kernel, ⟨by decide, by decide⟩, q3005, List.mem_of_getElem? (i := 35) rfl, q3043⟩
theorem cfX1_338_J49 : xCF "FiddleRow" 338 "java/util/LinkedHashMap$LinkedValues" iJ49_iterator 0 := ⟨mJ49_iterator, q3047, ⟨"java/util/Collection", "iterator", "()Ljava/util/Iterator;"⟩, by unfold xNp; decide +kernel, ⟨by decide, by decide⟩, q3005, List.mem_of_getElem? (i := 39) rfl, q3045⟩
theorem cfX1_338_J8 : xCF "FiddleRow" 338 "java/util/LinkedHashSet" iJ7_iterator 0 := ⟨mJ7_iterator, q2513, ⟨"java/util/Collection", "iterator", "()Ljava/util/Iterator;"⟩, by unfold xNp; decide +kernel, ⟨by decide, by decide⟩, q3005, List.mem_of_getElem? (i := 40) rfl, q3063⟩
theorem fgX1_256_5 : xFL "FiddleRow" 256 5 1 := ⟨_, TX6, 3, "FiddleRow$Peg", rfl, by decide, in_X6, Or.inl rfl, Or.inr ⟨_, q1341⟩⟩
theorem fgX1_361_2 : xFL "FiddleRow" 361 2 17 := ⟨_, TX3, 18, "FiddleRow$Hall", rfl, by decide, in_X3, Or.inl rfl, Or.inr ⟨_, q1192⟩⟩
theorem cvX1_365_J8 : xCV "FiddleRow" 365 "java/util/LinkedHashSet" iJ7_size 0 := ⟨mJ7_size, q3072, Or.inr ⟨⟨"java/util/LinkedHashSet", "size", "()I"⟩, "java/util/HashSet", by unfold xNp; decide +kernel, ⟨by decide, by decide⟩, q3068, q3069, q3071, Or.inl q3070⟩⟩
theorem cvX1_368_X3 : xCV "FiddleRow" 368 "FiddleRow$Hall" iX3_forgivenAt 1 := ⟨mX3_forgivenAt, q3084, Or.inl ⟨by unfold xNp; decide +kernel, ⟨by decide, by decide⟩, q3085, Or.inl q3083⟩⟩
theorem fgX1_372_4 : xFL "FiddleRow" 372 4 1 := ⟨_, TX5, 2, "FiddleRow$StringKey", rfl, by decide, in_X5, Or.inl rfl, Or.inr ⟨_, q1324⟩⟩
theorem cvX1_378_X1 : xCV "FiddleRow" 378 "FiddleRow" iX1_tunedHall 0 := ⟨mX1_tunedHall, q3097, Or.inl ⟨by unfold xNp; decide +kernel, ⟨by decide, by decide⟩, qs47, Or.inl q3095⟩⟩
theorem fgX1_384_2 : xFL "FiddleRow" 384 2 6 := ⟨_, TX3, 18, "FiddleRow$Hall", rfl, by decide, in_X3, Or.inl rfl, Or.inr ⟨_, q1168⟩⟩
theorem cvX1_375_X3 : xCV "FiddleRow" 375 "FiddleRow$Hall" iX3_tuneRow 0 := ⟨mX3_tuneRow, q2641, Or.inl ⟨by unfold xNp; decide +kernel, ⟨by decide, by decide⟩, q2642, Or.inl q3099⟩⟩
theorem fgX1_387_2 : xFL "FiddleRow" 387 2 5 := ⟨_, TX3, 18, "FiddleRow$Hall", rfl, by decide, in_X3, Or.inl rfl, Or.inr ⟨_, q1166⟩⟩
theorem fgX1_390_2 : xFL "FiddleRow" 390 2 7 := ⟨_, TX3, 18, "FiddleRow$Hall", rfl, by decide, in_X3, Or.inl rfl, Or.inr ⟨_, q1170⟩⟩
theorem fgX1_393_2 : xFL "FiddleRow" 393 2 8 := ⟨_, TX3, 18, "FiddleRow$Hall", rfl, by decide, in_X3, Or.inl rfl, Or.inr ⟨_, q1172⟩⟩
theorem cvX1_349_X4 : xCV "FiddleRow" 349 "FiddleRow$Fiddler" iX4_isInTune 0 := ⟨mX4_isInTune, q2708, Or.inl ⟨by unfold xNp; decide +kernel, ⟨by decide, by decide⟩, q2709, Or.inl q3128⟩⟩
theorem fgX1_396_2 : xFL "FiddleRow" 396 2 11 := ⟨_, TX3, 18, "FiddleRow$Hall", rfl, by decide, in_X3, Or.inl rfl, Or.inr ⟨_, q1178⟩⟩
theorem fgX1_399_2 : xFL "FiddleRow" 399 2 9 := ⟨_, TX3, 18, "FiddleRow$Hall", rfl, by decide, in_X3, Or.inl rfl, Or.inr ⟨_, q1174⟩⟩
theorem fgX1_402_2 : xFL "FiddleRow" 402 2 12 := ⟨_, TX3, 18, "FiddleRow$Hall", rfl, by decide, in_X3, Or.inl rfl, Or.inr ⟨_, q1180⟩⟩
theorem fgX1_405_2 : xFL "FiddleRow" 405 2 10 := ⟨_, TX3, 18, "FiddleRow$Hall", rfl, by decide, in_X3, Or.inl rfl, Or.inr ⟨_, q1176⟩⟩
theorem fgX1_358_3 : xFL "FiddleRow" 358 3 3 := ⟨_, TX4, 7, "FiddleRow$Fiddler", rfl, by decide, in_X4, Or.inl rfl, Or.inr ⟨_, q1260⟩⟩
theorem fgX1_355_3 : xFL "FiddleRow" 355 3 5 := ⟨_, TX4, 7, "FiddleRow$Fiddler", rfl, by decide, in_X4, Or.inl rfl, Or.inr ⟨_, q1266⟩⟩
theorem cvX1_408_X1 : xCV "FiddleRow" 408 "FiddleRow" iX1_referencesOf 1 := ⟨mX1_referencesOf, q3135, Or.inl ⟨by unfold xNp; decide +kernel, ⟨by decide, by decide⟩, qs48, Or.inl q3133⟩⟩
theorem fgX1_352_3 : xFL "FiddleRow" 352 3 4 := ⟨_, TX4, 7, "FiddleRow$Fiddler", rfl, by decide, in_X4, Or.inl rfl, Or.inr ⟨_, q1263⟩⟩
theorem cvX1_423_X1 : xCV "FiddleRow" 423 "FiddleRow" iX1_keep 2 := ⟨mX1_keep, q3143, Or.inl ⟨by unfold xNp; decide +kernel, ⟨by decide, by decide⟩, qs49, Or.inl q3141⟩⟩
theorem fgX1_77_0 : xFL "FiddleRow" 77 0 6 := ⟨_, TX1, 7, "FiddleRow", rfl, by decide, in_X1, Or.inl rfl, Or.inl q1986⟩
theorem cvX1_450_J14 : xCV "FiddleRow" 450 "java/lang/StringBuilder" iJ14_setLength 1 := ⟨mJ14_setLength, q3150, Or.inl ⟨by unfold xNp; decide +kernel, ⟨by decide, by decide⟩, q3151, Or.inl q3149⟩⟩
theorem cvX1_454_J14 : xCV "FiddleRow" 454 "java/lang/StringBuilder" iJ14_length 0 := ⟨mJ14_length, q576, Or.inl ⟨by unfold xNp; decide +kernel, ⟨by decide, by decide⟩, q4254, Or.inl q3201⟩⟩
theorem fgX1_231_3 : xFL "FiddleRow" 231 3 2 := ⟨_, TX4, 7, "FiddleRow$Fiddler", rfl, by decide, in_X4, Or.inl rfl, Or.inr ⟨_, q1257⟩⟩
theorem cvX1_455_J14 : xCV "FiddleRow" 455 "java/lang/StringBuilder" iJ14_append 1 := ⟨mJ14_append, q410, Or.inl ⟨by unfold xNp; decide +kernel, ⟨by decide, by decide⟩, q411, Or.inl q3202⟩⟩
theorem cvX1_464_J14 : xCV "FiddleRow" 464 "java/lang/StringBuilder" iJ14_charAt 1 := ⟨mJ14_charAt, q939, Or.inl ⟨by unfold xNp; decide +kernel, ⟨by decide, by decide⟩, q4255, Or.inl q3207⟩⟩
theorem fgX1_465_1 : xFL "FiddleRow" 465 1 0 := ⟨_, TX2, 3, "FiddleRow$History", rfl, by decide, in_X2, Or.inl rfl, Or.inr ⟨_, q1964⟩⟩
theorem cvX1_469_J36 : xCV "FiddleRow" 469 "java/util/ArrayDeque" iJ36_size 0 := ⟨mJ36_size, q2828, Or.inl ⟨by unfold xNp; decide +kernel, ⟨by decide, by decide⟩, q2829, Or.inl q3212⟩⟩
theorem csX1_84 : xCS "FiddleRow" 84 iX1_nonZeroBytes 1 := ⟨mX1_nonZeroBytes, by unfold xNp; decide +kernel, ⟨by decide, by decide⟩, q3222, Or.inl q3221⟩
theorem csX1_88 : xCS "FiddleRow" 88 iX1_checkState 1 := ⟨mX1_checkState, by unfold xNp; decide +kernel, ⟨by decide, by decide⟩, q2753, Or.inl q3224⟩
theorem cvX1_92_X1 : xCV "FiddleRow" 92 "FiddleRow" iX1_appendBytes 1 := ⟨mX1_appendBytes, q3227, Or.inl ⟨by unfold xNp; decide +kernel, ⟨by decide, by decide⟩, qs50, Or.inl q3225⟩⟩
theorem csX1_100 : xCS "FiddleRow" 100 iX1_checkArgument 1 := ⟨mX1_checkArgument, by unfold xNp; decide +kernel, ⟨by decide, by decide⟩, q2745, Or.inl q3237⟩
theorem csX1_192 : xCS "FiddleRow" 192 iX1_checkIndex 1 := ⟨mX1_checkIndex, by unfold xNp; decide +kernel, ⟨by decide, by decide⟩, q2721, Or.inl q3246⟩
theorem cvX1_216_X3 : xCV "FiddleRow" 216 "FiddleRow$Hall" iX3_fiddler 1 := ⟨mX3_fiddler, q2773, Or.inl ⟨by unfold xNp; decide +kernel, ⟨by decide, by decide⟩, q2774, Or.inl q3254⟩⟩
theorem cvX1_220_X3 : xCV "FiddleRow" 220 "FiddleRow$Hall" iX3_placeOf 1 := ⟨mX3_placeOf, q2777, Or.inl ⟨by unfold xNp; decide +kernel, ⟨by decide, by decide⟩, q2778, Or.inl q3255⟩⟩
theorem cvX1_235_J15 : xCV "FiddleRow" 235 "java/lang/String" iJ15_length 0 := ⟨mJ15_length, q487, Or.inl ⟨by unfold xNp; decide +kernel, ⟨by decide, by decide⟩, q488, Or.inl q3263⟩⟩
theorem cvX1_237_J15 : xCV "FiddleRow" 237 "java/lang/String" iJ15_charAt 1 := ⟨mJ15_charAt, q916, Or.inl ⟨by unfold xNp; decide +kernel, ⟨by decide, by decide⟩, q917, Or.inl q3264⟩⟩
theorem fgX1_241_3 : xFL "FiddleRow" 241 3 1 := ⟨_, TX4, 7, "FiddleRow$Fiddler", rfl, by decide, in_X4, Or.inl rfl, Or.inr ⟨_, q1254⟩⟩
theorem cvX1_244_X3 : xCV "FiddleRow" 244 "FiddleRow$Hall" iX3_pegWithString 2 := ⟨mX3_pegWithString, q3280, Or.inl ⟨by unfold xNp; decide +kernel, ⟨by decide, by decide⟩, q3281, Or.inl q3279⟩⟩
theorem cvX1_253_X3 : xCV "FiddleRow" 253 "FiddleRow$Hall" iX3_peg 2 := ⟨mX3_peg, q2716, Or.inl ⟨by unfold xNp; decide +kernel, ⟨by decide, by decide⟩, q2717, Or.inl q3290⟩⟩
theorem csX1_268 : xCS "FiddleRow" 268 iJ18_max 2 := ⟨mJ18_max, by unfold xNp; decide +kernel, ⟨by decide, by decide⟩, q432, Or.inl q3305⟩
theorem fgX1_381_3 : xFL "FiddleRow" 381 3 6 := ⟨_, TX4, 7, "FiddleRow$Fiddler", rfl, by decide, in_X4, Or.inl rfl, Or.inr ⟨_, q1269⟩⟩
theorem cvX1_415_X1 : xCV "FiddleRow" 415 "FiddleRow" iX1_hallAfter 1 := ⟨mX1_hallAfter, q3357, Or.inl ⟨by unfold xNp; decide +kernel, ⟨by decide, by decide⟩, qs51, Or.inl q3355⟩⟩
theorem cvX1_412_X3 : xCV "FiddleRow" 412 "FiddleRow$Hall" iX3_passHour 0 := ⟨mX3_passHour, q2810, Or.inl ⟨by unfold xNp; decide +kernel, ⟨by decide, by decide⟩, q2811, Or.inl q3359⟩⟩
theorem csX1_419 : xCS "FiddleRow" 419 iX1_isOff 2 := ⟨mX1_isOff, by unfold xNp; decide +kernel, ⟨by decide, by decide⟩, q3375, Or.inl q3374⟩
theorem cvX1_426_X3 : xCV "FiddleRow" 426 "FiddleRow$Hall" iX3_turnPeg 3 := ⟨mX3_turnPeg, q2712, Or.inl ⟨by unfold xNp; decide +kernel, ⟨by decide, by decide⟩, q2713, Or.inl q3384⟩⟩
theorem cvX1_429_X3 : xCV "FiddleRow" 429 "FiddleRow$Hall" iX3_chalkPeg 2 := ⟨mX3_chalkPeg, q2761, Or.inl ⟨by unfold xNp; decide +kernel, ⟨by decide, by decide⟩, q2762, Or.inl q3392⟩⟩
theorem cvX1_432_X3 : xCV "FiddleRow" 432 "FiddleRow$Hall" iX3_replaceString 2 := ⟨mX3_replaceString, q2765, Or.inl ⟨by unfold xNp; decide +kernel, ⟨by decide, by decide⟩, q2766, Or.inl q3400⟩⟩
theorem cvX1_435_X3 : xCV "FiddleRow" 435 "FiddleRow$Hall" iX3_swapPlaces 2 := ⟨mX3_swapPlaces, q2769, Or.inl ⟨by unfold xNp; decide +kernel, ⟨by decide, by decide⟩, q2770, Or.inl q3408⟩⟩
theorem cvX1_438_X3 : xCV "FiddleRow" 438 "FiddleRow$Hall" iX3_leaveRow 1 := ⟨mX3_leaveRow, q2785, Or.inl ⟨by unfold xNp; decide +kernel, ⟨by decide, by decide⟩, q2786, Or.inl q3416⟩⟩
theorem cvX1_441_X3 : xCV "FiddleRow" 441 "FiddleRow$Hall" iX3_joinRow 1 := ⟨mX3_joinRow, q2798, Or.inl ⟨by unfold xNp; decide +kernel, ⟨by decide, by decide⟩, q2799, Or.inl q3424⟩⟩
theorem cvX1_444_X3 : xCV "FiddleRow" 444 "FiddleRow$Hall" iX3_setTarget 1 := ⟨mX3_setTarget, q2802, Or.inl ⟨by unfold xNp; decide +kernel, ⟨by decide, by decide⟩, q2803, Or.inl q3432⟩⟩
theorem cvX1_447_X3 : xCV "FiddleRow" 447 "FiddleRow$Hall" iX3_passHours 1 := ⟨mX3_passHours, q2806, Or.inl ⟨by unfold xNp; decide +kernel, ⟨by decide, by decide⟩, q2807, Or.inl q3440⟩⟩
theorem csX1_458 : xCS "FiddleRow" 458 iX1_nameOfString 1 := ⟨mX1_nameOfString, by unfold xNp; decide +kernel, ⟨by decide, by decide⟩, q3449, Or.inl q3448⟩
theorem cvX1_461_J14 : xCV "FiddleRow" 461 "java/lang/StringBuilder" iJ14_append_2 1 := ⟨mJ14_append_2, q530, Or.inl ⟨by unfold xNp; decide +kernel, ⟨by decide, by decide⟩, q531, Or.inl q3451⟩⟩
theorem cvX1_472_X2 : xCV "FiddleRow" 472 "FiddleRow$History" iX2_undo 0 := ⟨mX2_undo, q3460, Or.inl ⟨by unfold xNp; decide +kernel, ⟨by decide, by decide⟩, q3461, Or.inl q3459⟩⟩
theorem cvX1_475_X2 : xCV "FiddleRow" 475 "FiddleRow$History" iX2_save 1 := ⟨mX2_save, q3487, Or.inl ⟨by unfold xNp; decide +kernel, ⟨by decide, by decide⟩, q3488, Or.inl q3486⟩⟩
theorem cvX1_478_X2 : xCV "FiddleRow" 478 "FiddleRow$History" iX2_restore 1 := ⟨mX2_restore, q3501, Or.inl ⟨by unfold xNp; decide +kernel, ⟨by decide, by decide⟩, q3502, Or.inl q3500⟩⟩
theorem ciJ1_1 : xCI "java/util/AbstractList" 1 iJ0_init 0 := ⟨mJ0_init, rfl, q227, by unfold xNp; decide +kernel, ⟨by decide, by decide⟩, q226, Or.inl q225⟩
theorem fpJ1_7_11 : xFP "java/util/AbstractList" 7 11 0 .int := ⟨_, TJ2, 3, "java/util/AbstractList", tyJ2, ⟨rfl, in_J2, tyJ2_ok, nmJ2⟩, by decide, rfl, rfl, Or.inl rfl, Or.inl q235⟩
theorem ciJ2_1 : xCI "java/util/ArrayList" 1 iJ1_init 0 := ⟨mJ1_init, rfl, q224, by unfold xNp; decide +kernel, ⟨by decide, by decide⟩, q223, Or.inl q222⟩
theorem fpJ2_9_11 : xFP "java/util/ArrayList" 9 11 1 (.array (.object "java/lang/Object")) := ⟨_, TJ2, 3, "java/util/ArrayList", tyJ2, ⟨rfl, in_J2, tyJ2_ok, nmJ2⟩, by decide, rfl, rfl, Or.inl rfl, Or.inl q231⟩
theorem fgJ2_48_11 : xFL "java/util/ArrayList" 48 11 2 := ⟨_, TJ2, 3, "java/util/ArrayList", rfl, by decide, in_J2, Or.inl rfl, Or.inl q234⟩
theorem fgJ2_63_11 : xFL "java/util/ArrayList" 63 11 0 := ⟨_, TJ2, 3, "java/util/ArrayList", rfl, by decide, in_J2, Or.inr q237, Or.inl q238⟩
theorem fpJ2_63_11 : xFP "java/util/ArrayList" 63 11 0 .int := ⟨_, TJ2, 3, "java/util/ArrayList", tyJ2, ⟨rfl, in_J2, tyJ2_ok, nmJ2⟩, by decide, rfl, rfl, Or.inr q237, Or.inl q238⟩
theorem fgJ2_9_11 : xFL "java/util/ArrayList" 9 11 1 := ⟨_, TJ2, 3, "java/util/ArrayList", rfl, by decide, in_J2, Or.inl rfl, Or.inl q231⟩
theorem cvJ2_131_J2 : xCV "java/util/ArrayList" 131 "java/util/ArrayList" iJ2_add_2 3 := ⟨mJ2_add_2, q1291, Or.inl ⟨by unfold xNp; decide +kernel, ⟨by decide, by decide⟩, qs14, Or.inl q1289⟩⟩
theorem cvJ2_129_J2 : xCV "java/util/ArrayList" 129 "java/util/ArrayList" iJ2_grow 0 := ⟨mJ2_grow, q1295, Or.inl ⟨by unfold xNp; decide +kernel, ⟨by decide, by decide⟩, qs15, Or.inl q1293⟩⟩
theorem fpJ2_48_11 : xFP "java/util/ArrayList" 48 11 2 .int := ⟨_, TJ2, 3, "java/util/ArrayList", tyJ2, ⟨rfl, in_J2, tyJ2_ok, nmJ2⟩, by decide, rfl, rfl, Or.inl rfl, Or.inl q234⟩
theorem cvJ2_69_J2 : xCV "java/util/ArrayList" 69 "java/util/ArrayList" iJ2_grow_2 1 := ⟨mJ2_grow_2, q1299, Or.inl ⟨by unfold xNp; decide +kernel, ⟨by decide, by decide⟩, qs16, Or.inl q1297⟩⟩
theorem csJ2_73 : xCS "java/util/ArrayList" 73 iJ17_newLength 3 := ⟨mJ17_newLength, by unfold xNp; decide +kernel, ⟨by decide, by decide⟩, q429, Or.inl q1301⟩
theorem csJ2_66 : xCS "java/util/ArrayList" 66 iJ19_copyOf_2 2 := ⟨mJ19_copyOf_2, by unfold xNp; decide +kernel, ⟨by decide, by decide⟩, q1303, Or.inl q1302⟩
theorem csJ2_79 : xCS "java/util/ArrayList" 79 iJ18_max 2 := ⟨mJ18_max, by unfold xNp; decide +kernel, ⟨by decide, by decide⟩, q432, Or.inl q1312⟩
theorem csJ2_118 : xCS "java/util/ArrayList" 118 iJ30_checkIndex 2 := ⟨mJ30_checkIndex, by unfold xNp; decide +kernel, ⟨by decide, by decide⟩, q2139, Or.inl q2138⟩
theorem cvJ2_123_J2 : xCV "java/util/ArrayList" 123 "java/util/ArrayList" iJ2_elementData 1 := ⟨mJ2_elementData, q2143, Or.inl ⟨by unfold xNp; decide +kernel, ⟨by decide, by decide⟩, q2144, Or.inl q2142⟩⟩
theorem nwJ2_267 : xNW "java/util/ArrayList" 267 19 4 [.int 0, .int 0, .int 0, .null] := ⟨_, TJ38, tyJ38, ⟨rfl, in_J38, tyJ38_ok, nmJ38⟩, q2273, q2274, q182, fun j hj => by
  rcases (by omega : j = 0 ∨ j = 1 ∨ j = 2 ∨ j = 3) with rfl | rfl | rfl | rfl <;> rfl⟩
theorem ciJ2_269 : xCI "java/util/ArrayList" 269 iJ38_init 1 := ⟨mJ38_init, rfl, q2277, by unfold xNp; decide +kernel, ⟨by decide, by decide⟩, q2276, Or.inl q2275⟩
theorem cvJ2_144_J2 : xCV "java/util/ArrayList" 144 "java/util/ArrayList" iJ2_fastRemove 2 := ⟨mJ2_fastRemove, q2794, Or.inl ⟨by unfold xNp; decide +kernel, ⟨by decide, by decide⟩, qs43, Or.inl q2792⟩⟩
theorem fFJ38_1_19 : xFF "java/util/ArrayList$Itr" 1 19 3 (.object "java/util/ArrayList") := ⟨_, TJ38, 4, "java/util/ArrayList$Itr", tyJ38, ⟨rfl, in_J38, tyJ38_ok, nmJ38⟩, by decide, rfl, rfl, rfl, Or.inl rfl, q2282⟩
theorem fpJ38_13_19 : xFP "java/util/ArrayList$Itr" 13 19 1 .int := ⟨_, TJ38, 4, "java/util/ArrayList$Itr", tyJ38, ⟨rfl, in_J38, tyJ38_ok, nmJ38⟩, by decide, rfl, rfl, Or.inl rfl, Or.inl q2280⟩
theorem fgJ38_1_19 : xFL "java/util/ArrayList$Itr" 1 19 3 := ⟨_, TJ38, 4, "java/util/ArrayList$Itr", rfl, by decide, in_J38, Or.inl rfl, Or.inl q2282⟩
theorem fgJ38_17_11 : xFL "java/util/ArrayList$Itr" 17 11 0 := ⟨_, TJ2, 3, "java/util/ArrayList", rfl, by decide, in_J2, Or.inr q237, Or.inl q236⟩
theorem fpJ38_22_19 : xFP "java/util/ArrayList$Itr" 22 19 2 .int := ⟨_, TJ38, 4, "java/util/ArrayList$Itr", tyJ38, ⟨rfl, in_J38, tyJ38_ok, nmJ38⟩, by decide, rfl, rfl, Or.inl rfl, Or.inl q2281⟩
theorem fgJ38_25_19 : xFL "java/util/ArrayList$Itr" 25 19 0 := ⟨_, TJ38, 4, "java/util/ArrayList$Itr", rfl, by decide, in_J38, Or.inl rfl, Or.inl q2279⟩
theorem fgJ38_28_11 : xFL "java/util/ArrayList$Itr" 28 11 2 := ⟨_, TJ2, 3, "java/util/ArrayList", rfl, by decide, in_J2, Or.inl rfl, Or.inr ⟨_, q233⟩⟩
theorem cvJ38_31_J38 : xCV "java/util/ArrayList$Itr" 31 "java/util/ArrayList$Itr" iJ38_checkForComodification 0 := ⟨mJ38_checkForComodification, q2347, Or.inl ⟨by unfold xNp; decide +kernel, ⟨by decide, by decide⟩, q2348, Or.inl q2346⟩⟩
theorem fgJ38_37_11 : xFL "java/util/ArrayList$Itr" 37 11 1 := ⟨_, TJ2, 3, "java/util/ArrayList", rfl, by decide, in_J2, Or.inl rfl, Or.inl q232⟩
theorem fpJ38_25_19 : xFP "java/util/ArrayList$Itr" 25 19 0 .int := ⟨_, TJ38, 4, "java/util/ArrayList$Itr", tyJ38, ⟨rfl, in_J38, tyJ38_ok, nmJ38⟩, by decide, rfl, rfl, Or.inl rfl, Or.inl q2279⟩
theorem fgJ38_22_19 : xFL "java/util/ArrayList$Itr" 22 19 2 := ⟨_, TJ38, 4, "java/util/ArrayList$Itr", rfl, by decide, in_J38, Or.inl rfl, Or.inl q2281⟩
theorem ciJ4_43 : xCI "java/util/HashMap" 43 iJ3_init 0 := ⟨mJ3_init, rfl, q257, by unfold xNp; decide +kernel, ⟨by decide, by decide⟩, q256, Or.inl q255⟩
theorem fFJ4_81_12 : xFF "java/util/HashMap" 81 12 5 .float := ⟨_, TJ5, 12, "java/util/HashMap", tyJ5, ⟨rfl, in_J5, tyJ5_ok, nmJ5⟩, by decide, rfl, rfl, rfl, Or.inl rfl, q278⟩
theorem nwJ4_51 : xNW "java/util/HashMap" 51 14 4 [.null, .int 0, .int 0, .int 0] := ⟨_, TJ14, tyJ14, ⟨rfl, in_J14, tyJ14_ok, nmJ14⟩, q375, q376, q147, fun j hj => by
  rcases (by omega : j = 0 ∨ j = 1 ∨ j = 2 ∨ j = 3) with rfl | rfl | rfl | rfl <;> rfl⟩
theorem ciJ4_53 : xCI "java/util/HashMap" 53 iJ14_init 0 := ⟨mJ14_init, rfl, q379, by unfold xNp; decide +kernel, ⟨by decide, by decide⟩, q378, Or.inl q377⟩
theorem cvJ4_56_J14 : xCV "java/util/HashMap" 56 "java/lang/StringBuilder" iJ14_append 1 := ⟨mJ14_append, q410, Or.inl ⟨by unfold xNp; decide +kernel, ⟨by decide, by decide⟩, q411, Or.inl q409⟩⟩
theorem cvJ4_60_J14 : xCV "java/util/HashMap" 60 "java/lang/StringBuilder" iJ14_append_2 1 := ⟨mJ14_append_2, q530, Or.inl ⟨by unfold xNp; decide +kernel, ⟨by decide, by decide⟩, q531, Or.inl q529⟩⟩
theorem cvJ4_63_J14 : xCV "java/util/HashMap" 63 "java/lang/StringBuilder" iJ14_toString 0 := ⟨mJ14_toString, q555, Or.inl ⟨by unfold xNp; decide +kernel, ⟨by decide, by decide⟩, q556, Or.inl q554⟩⟩
theorem ciJ4_67 : xCI "java/util/HashMap" 67 iJ12_init 1 := ⟨mJ12_init, rfl, q599, by unfold xNp; decide +kernel, ⟨by decide, by decide⟩, q598, Or.inl q648⟩
theorem cvJ4_78_J14 : xCV "java/util/HashMap" 78 "java/lang/StringBuilder" iJ14_append_3 1 := ⟨mJ14_append_3, q655, Or.inl ⟨by unfold xNp; decide +kernel, ⟨by decide, by decide⟩, q656, Or.inl q654⟩⟩
theorem csJ4_85 : xCS "java/util/HashMap" 85 iJ4_tableSizeFor 1 := ⟨mJ4_tableSizeFor, by unfold xNp; decide +kernel, ⟨by decide, by decide⟩, q1148, Or.inl q1147⟩
theorem fpJ4_88_12 : xFP "java/util/HashMap" 88 12 4 .int := ⟨_, TJ5, 12, "java/util/HashMap", tyJ5, ⟨rfl, in_J5, tyJ5_ok, nmJ5⟩, by decide, rfl, rfl, Or.inl rfl, Or.inl q277⟩
theorem csJ4_34 : xCS "java/util/HashMap" 34 iJ23_numberOfLeadingZeros 1 := ⟨mJ23_numberOfLeadingZeros, by unfold xNp; decide +kernel, ⟨by decide, by decide⟩, q699, Or.inl q1150⟩
theorem csJ4_149 : xCS "java/util/HashMap" 149 iJ4_hash 1 := ⟨mJ4_hash, by unfold xNp; decide +kernel, ⟨by decide, by decide⟩, q1359, Or.inl q1358⟩
theorem cvJ4_152_J5 : xCV "java/util/HashMap" 152 "java/util/LinkedHashMap" iJ4_putVal 5 := ⟨mJ4_putVal, q1458, Or.inl ⟨by unfold xNp; decide +kernel, ⟨by decide, by decide⟩, q1460, Or.inl q1457⟩⟩
theorem cvJ4_1_J15 : xCV "java/util/HashMap" 1 "java/lang/String" iJ15_hashCode 0 := ⟨mJ15_hashCode, q1396, Or.inr ⟨⟨"java/lang/Object", "hashCode", "()I"⟩, "java/lang/Object", by unfold xNp; decide +kernel, ⟨by decide, by decide⟩, q1362, q1364, q1395, Or.inl q1361⟩⟩
theorem cvJ4_1_J23 : xCV "java/util/HashMap" 1 "java/lang/Integer" iJ23_hashCode 0 := ⟨mJ23_hashCode, q1390, Or.inr ⟨⟨"java/lang/Object", "hashCode", "()I"⟩, "java/lang/Object", by unfold xNp; decide +kernel, ⟨by decide, by decide⟩, q1362, q1364, q1389, Or.inl q1361⟩⟩
theorem cvJ4_1_X5 : xCV "java/util/HashMap" 1 "FiddleRow$StringKey" iX5_hashCode 0 := ⟨mX5_hashCode, q1375, Or.inr ⟨⟨"java/lang/Object", "hashCode", "()I"⟩, "java/lang/Object", by unfold xNp; decide +kernel, ⟨by decide, by decide⟩, q1362, q1364, q1374, Or.inl q1361⟩⟩
theorem fgJ4_105_12 : xFL "java/util/HashMap" 105 12 0 := ⟨_, TJ5, 12, "java/util/HashMap", rfl, by decide, in_J5, Or.inl rfl, Or.inl q267⟩
theorem cvJ4_117_J5 : xCV "java/util/HashMap" 117 "java/util/LinkedHashMap" iJ4_resize 0 := ⟨mJ4_resize, q1463, Or.inl ⟨by unfold xNp; decide +kernel, ⟨by decide, by decide⟩, q1465, Or.inl q1462⟩⟩
theorem cvJ4_186_J5 : xCV "java/util/HashMap" 186 "java/util/LinkedHashMap" iJ5_newNode 4 := ⟨mJ5_newNode, q1787, Or.inr ⟨⟨"java/util/HashMap", "newNode", "(ILjava/lang/Object;Ljava/lang/Object;Ljava/util/HashMap$Node;)Ljava/util/HashMap$Node;"⟩, "java/util/HashMap", by unfold xNp; decide +kernel, ⟨by decide, by decide⟩, q1783, q1785, q1786, Or.inl q1793⟩⟩
theorem fgJ4_168_17 : xFL "java/util/HashMap" 168 17 0 := ⟨_, TJ32, 6, "java/util/HashMap$Node", rfl, by decide, in_J32, Or.inl rfl, Or.inl q1505⟩
theorem fgJ4_170_17 : xFL "java/util/HashMap" 170 17 1 := ⟨_, TJ32, 6, "java/util/HashMap$Node", rfl, by decide, in_J32, Or.inl rfl, Or.inl q1512⟩
theorem cvJ4_173_J15 : xCV "java/util/HashMap" 173 "java/lang/String" iJ15_equals 1 := ⟨mJ15_equals, q1828, Or.inr ⟨⟨"java/lang/Object", "equals", "(Ljava/lang/Object;)Z"⟩, "java/lang/Object", by unfold xNp; decide +kernel, ⟨by decide, by decide⟩, q1795, q1797, q1827, Or.inl q1794⟩⟩
theorem cvJ4_173_J23 : xCV "java/util/HashMap" 173 "java/lang/Integer" iJ23_equals 1 := ⟨mJ23_equals, q1821, Or.inr ⟨⟨"java/lang/Object", "equals", "(Ljava/lang/Object;)Z"⟩, "java/lang/Object", by unfold xNp; decide +kernel, ⟨by decide, by decide⟩, q1795, q1797, q1820, Or.inl q1794⟩⟩
theorem cvJ4_173_X5 : xCV "java/util/HashMap" 173 "FiddleRow$StringKey" iX5_equals 1 := ⟨mX5_equals, q1808, Or.inr ⟨⟨"java/lang/Object", "equals", "(Ljava/lang/Object;)Z"⟩, "java/lang/Object", by unfold xNp; decide +kernel, ⟨by decide, by decide⟩, q1795, q1797, q1807, Or.inl q1794⟩⟩
theorem fgJ4_177_17 : xFL "java/util/HashMap" 177 17 3 := ⟨_, TJ32, 6, "java/util/HashMap$Node", rfl, by decide, in_J32, Or.inl rfl, Or.inl q1524⟩
theorem fpJ4_177_17 : xFP "java/util/HashMap" 177 17 3 (.object "java/util/HashMap$Node") := ⟨_, TJ32, 6, "java/util/HashMap$Node", tyJ32, ⟨rfl, in_J32, tyJ32_ok, nmJ32⟩, by decide, rfl, rfl, Or.inl rfl, Or.inl q1524⟩
theorem cvJ4_194_J5 : xCV "java/util/HashMap" 194 "java/util/LinkedHashMap" iJ4_treeifyBin 2 := ⟨mJ4_treeifyBin, q1889, Or.inl ⟨by unfold xNp; decide +kernel, ⟨by decide, by decide⟩, q1891, Or.inl q1888⟩⟩
theorem fgJ4_162_17 : xFL "java/util/HashMap" 162 17 2 := ⟨_, TJ32, 6, "java/util/HashMap$Node", rfl, by decide, in_J32, Or.inl rfl, Or.inl q1517⟩
theorem fpJ4_162_17 : xFP "java/util/HashMap" 162 17 2 (.object "java/lang/Object") := ⟨_, TJ32, 6, "java/util/HashMap$Node", tyJ32, ⟨rfl, in_J32, tyJ32_ok, nmJ32⟩, by decide, rfl, rfl, Or.inl rfl, Or.inl q1517⟩
theorem cvJ4_198_J5 : xCV "java/util/HashMap" 198 "java/util/LinkedHashMap" iJ5_afterNodeAccess 1 := ⟨mJ5_afterNodeAccess, q1905, Or.inr ⟨⟨"java/util/HashMap", "afterNodeAccess", "(Ljava/util/HashMap$Node;)V"⟩, "java/util/HashMap", by unfold xNp; decide +kernel, ⟨by decide, by decide⟩, q1901, q1903, q1904, Or.inl q1907⟩⟩
theorem fgJ4_202_12 : xFL "java/util/HashMap" 202 12 3 := ⟨_, TJ5, 12, "java/util/HashMap", rfl, by decide, in_J5, Or.inl rfl, Or.inl q276⟩
theorem fpJ4_202_12 : xFP "java/util/HashMap" 202 12 3 .int := ⟨_, TJ5, 12, "java/util/HashMap", tyJ5, ⟨rfl, in_J5, tyJ5_ok, nmJ5⟩, by decide, rfl, rfl, Or.inl rfl, Or.inl q276⟩
theorem fgJ4_156_12 : xFL "java/util/HashMap" 156 12 2 := ⟨_, TJ5, 12, "java/util/HashMap", rfl, by decide, in_J5, Or.inl rfl, Or.inl q271⟩
theorem fpJ4_156_12 : xFP "java/util/HashMap" 156 12 2 .int := ⟨_, TJ5, 12, "java/util/HashMap", tyJ5, ⟨rfl, in_J5, tyJ5_ok, nmJ5⟩, by decide, rfl, rfl, Or.inl rfl, Or.inl q271⟩
theorem fgJ4_88_12 : xFL "java/util/HashMap" 88 12 4 := ⟨_, TJ5, 12, "java/util/HashMap", rfl, by decide, in_J5, Or.inl rfl, Or.inl q277⟩
theorem cvJ4_205_J5 : xCV "java/util/HashMap" 205 "java/util/LinkedHashMap" iJ5_afterNodeInsertion 1 := ⟨mJ5_afterNodeInsertion, q1912, Or.inr ⟨⟨"java/util/HashMap", "afterNodeInsertion", "(Z)V"⟩, "java/util/HashMap", by unfold xNp; decide +kernel, ⟨by decide, by decide⟩, q1908, q1910, q1911, Or.inl q1918⟩⟩
theorem fgJ4_81_12 : xFL "java/util/HashMap" 81 12 5 := ⟨_, TJ5, 12, "java/util/HashMap", rfl, by decide, in_J5, Or.inl rfl, Or.inl q278⟩
theorem fpJ4_105_12 : xFP "java/util/HashMap" 105 12 0 (.array (.object "java/util/HashMap$Node")) := ⟨_, TJ5, 12, "java/util/HashMap", tyJ5, ⟨rfl, in_J5, tyJ5_ok, nmJ5⟩, by decide, rfl, rfl, Or.inl rfl, Or.inl q267⟩
theorem cfJ4_30_J14 : xCF "java/util/HashMap" 30 "java/lang/StringBuilder" iJ14_compareTo 1 := ⟨mJ14_compareTo, q1740, ⟨"java/lang/Comparable", "compareTo", "(Ljava/lang/Object;)I"⟩, by unfold xNp; decide +kernel, ⟨by decide, by decide⟩, q1558, List.mem_of_getElem? (i := 11) rfl, q1738⟩
theorem cfJ4_30_J15 : xCF "java/util/HashMap" 30 "java/lang/String" iJ15_compareTo 1 := ⟨mJ15_compareTo, q1596, ⟨"java/lang/Comparable", "compareTo", "(Ljava/lang/Object;)I"⟩, by unfold xNp; decide +kernel, ⟨by decide, by decide⟩, q1558, List.mem_of_getElem? (i := 6) rfl, q1594⟩
theorem cfJ4_30_J23 : xCF "java/util/HashMap" 30 "java/lang/Integer" iJ23_compareTo 1 := ⟨mJ23_compareTo, q1582, ⟨"java/lang/Comparable", "compareTo", "(Ljava/lang/Object;)I"⟩, by unfold xNp; decide +kernel, ⟨by decide, by decide⟩, q1558, List.mem_of_getElem? (i := 3) rfl, q1580⟩
theorem cvJ4_215_J5 : xCV "java/util/HashMap" 215 "java/util/LinkedHashMap" iJ5_replacementTreeNode 2 := ⟨mJ5_replacementTreeNode, q1897, Or.inr ⟨⟨"java/util/HashMap", "replacementTreeNode", "(Ljava/util/HashMap$Node;Ljava/util/HashMap$Node;)Ljava/util/HashMap$TreeNode;"⟩, "java/util/HashMap", by unfold xNp; decide +kernel, ⟨by decide, by decide⟩, q1893, q1895, q1896, Or.inl q1899⟩⟩
theorem fpJ4_223_17 : xFP "java/util/HashMap" 223 17 3 (.object "java/util/HashMap$Node") := ⟨_, TJ32, 6, "java/util/HashMap$TreeNode", tyJ32, ⟨rfl, in_J32, tyJ32_ok, nmJ32⟩, by decide, rfl, rfl, Or.inr q1522, Or.inl q1525⟩
theorem ciJ5_87 : xCI "java/util/LinkedHashMap" 87 iJ4_init 0 := ⟨mJ4_init, rfl, q254, by unfold xNp; decide +kernel, ⟨by decide, by decide⟩, q253, Or.inl q252⟩
theorem fpJ5_1_12 : xFP "java/util/LinkedHashMap" 1 12 11 .int := ⟨_, TJ5, 12, "java/util/LinkedHashMap", tyJ5, ⟨rfl, in_J5, tyJ5_ok, nmJ5⟩, by decide, rfl, rfl, Or.inl rfl, Or.inl q265⟩
theorem fFJ5_64_12 : xFF "java/util/LinkedHashMap" 64 12 10 .boolean := ⟨_, TJ5, 12, "java/util/LinkedHashMap", tyJ5, ⟨rfl, in_J5, tyJ5_ok, nmJ5⟩, by decide, rfl, rfl, rfl, Or.inl rfl, q264⟩
theorem ciJ5_81 : xCI "java/util/LinkedHashMap" 81 iJ4_init_2 2 := ⟨mJ4_init_2, rfl, q329, by unfold xNp; decide +kernel, ⟨by decide, by decide⟩, q328, Or.inl q327⟩
theorem nwJ5_15 : xNW "java/util/LinkedHashMap" 15 17 6 [.int 0, .null, .null, .null, .null, .null] := ⟨_, TJ32, tyJ32, ⟨rfl, in_J32, tyJ32_ok, nmJ32⟩, q1487, q1488, q169, fun j hj => by
  rcases (by omega : j = 0 ∨ j = 1 ∨ j = 2 ∨ j = 3 ∨ j = 4 ∨ j = 5) with rfl | rfl | rfl | rfl | rfl | rfl <;> rfl⟩
theorem fgJ5_36_17 : xFL "java/util/LinkedHashMap" 36 17 0 := ⟨_, TJ32, 6, "java/util/LinkedHashMap$Entry", rfl, by decide, in_J32, Or.inr q1504, Or.inl q1503⟩
theorem fgJ5_39_17 : xFL "java/util/LinkedHashMap" 39 17 1 := ⟨_, TJ32, 6, "java/util/LinkedHashMap$Entry", rfl, by decide, in_J32, Or.inr q1511, Or.inl q1510⟩
theorem fgJ5_43_17 : xFL "java/util/LinkedHashMap" 43 17 2 := ⟨_, TJ32, 6, "java/util/LinkedHashMap$Entry", rfl, by decide, in_J32, Or.inr q1515, Or.inl q1516⟩
theorem ciJ5_28 : xCI "java/util/LinkedHashMap" 28 iJ32_init 4 := ⟨mJ32_init, rfl, q1491, by unfold xNp; decide +kernel, ⟨by decide, by decide⟩, q1490, Or.inl q1489⟩
theorem cvJ5_46_J5 : xCV "java/util/LinkedHashMap" 46 "java/util/LinkedHashMap" iJ5_transferLinks 2 := ⟨mJ5_transferLinks, q1541, Or.inl ⟨by unfold xNp; decide +kernel, ⟨by decide, by decide⟩, qs17, Or.inl q1539⟩⟩
theorem fgJ5_19_17 : xFL "java/util/LinkedHashMap" 19 17 4 := ⟨_, TJ32, 6, "java/util/LinkedHashMap$Entry", rfl, by decide, in_J32, Or.inl rfl, Or.inl q1496⟩
theorem fpJ5_19_17 : xFP "java/util/LinkedHashMap" 19 17 4 (.object "java/util/LinkedHashMap$Entry") := ⟨_, TJ32, 6, "java/util/LinkedHashMap$Entry", tyJ32, ⟨rfl, in_J32, tyJ32_ok, nmJ32⟩, by decide, rfl, rfl, Or.inl rfl, Or.inl q1496⟩
theorem fgJ5_14_17 : xFL "java/util/LinkedHashMap" 14 17 5 := ⟨_, TJ32, 6, "java/util/LinkedHashMap$Entry", rfl, by decide, in_J32, Or.inl rfl, Or.inl q1498⟩
theorem fpJ5_14_17 : xFP "java/util/LinkedHashMap" 14 17 5 (.object "java/util/LinkedHashMap$Entry") := ⟨_, TJ32, 6, "java/util/LinkedHashMap$Entry", tyJ32, ⟨rfl, in_J32, tyJ32_ok, nmJ32⟩, by decide, rfl, rfl, Or.inl rfl, Or.inl q1498⟩
theorem fpJ5_7_12 : xFP "java/util/LinkedHashMap" 7 12 8 (.object "java/util/LinkedHashMap$Entry") := ⟨_, TJ5, 12, "java/util/LinkedHashMap", tyJ5, ⟨rfl, in_J5, tyJ5_ok, nmJ5⟩, by decide, rfl, rfl, Or.inl rfl, Or.inl q260⟩
theorem fpJ5_11_12 : xFP "java/util/LinkedHashMap" 11 12 9 (.object "java/util/LinkedHashMap$Entry") := ⟨_, TJ5, 12, "java/util/LinkedHashMap", tyJ5, ⟨rfl, in_J5, tyJ5_ok, nmJ5⟩, by decide, rfl, rfl, Or.inl rfl, Or.inl q263⟩
theorem cvJ5_32_J5 : xCV "java/util/LinkedHashMap" 32 "java/util/LinkedHashMap" iJ5_linkNodeAtEnd 1 := ⟨mJ5_linkNodeAtEnd, q1791, Or.inl ⟨by unfold xNp; decide +kernel, ⟨by decide, by decide⟩, qs18, Or.inl q1789⟩⟩
theorem fgJ5_1_12 : xFL "java/util/LinkedHashMap" 1 12 11 := ⟨_, TJ5, 12, "java/util/LinkedHashMap", rfl, by decide, in_J5, Or.inl rfl, Or.inl q265⟩
theorem fgJ5_7_12 : xFL "java/util/LinkedHashMap" 7 12 8 := ⟨_, TJ5, 12, "java/util/LinkedHashMap", rfl, by decide, in_J5, Or.inl rfl, Or.inl q260⟩
theorem fgJ5_11_12 : xFL "java/util/LinkedHashMap" 11 12 9 := ⟨_, TJ5, 12, "java/util/LinkedHashMap", rfl, by decide, in_J5, Or.inl rfl, Or.inl q263⟩
theorem fgJ5_64_12 : xFL "java/util/LinkedHashMap" 64 12 10 := ⟨_, TJ5, 12, "java/util/LinkedHashMap", rfl, by decide, in_J5, Or.inl rfl, Or.inl q264⟩
theorem fgJ5_68_12 : xFL "java/util/LinkedHashMap" 68 12 3 := ⟨_, TJ5, 12, "java/util/LinkedHashMap", rfl, by decide, in_J5, Or.inr q274, Or.inl q275⟩
theorem fpJ5_68_12 : xFP "java/util/LinkedHashMap" 68 12 3 .int := ⟨_, TJ5, 12, "java/util/LinkedHashMap", tyJ5, ⟨rfl, in_J5, tyJ5_ok, nmJ5⟩, by decide, rfl, rfl, Or.inr q274, Or.inl q275⟩
theorem cvJ5_53_J5 : xCV "java/util/LinkedHashMap" 53 "java/util/LinkedHashMap" iJ5_removeEldestEntry 1 := ⟨mJ5_removeEldestEntry, q1915, Or.inl ⟨by unfold xNp; decide +kernel, ⟨by decide, by decide⟩, q1916, Or.inl q1914⟩⟩
theorem cvJ5_148_J5 : xCV "java/util/LinkedHashMap" 148 "java/util/LinkedHashMap" iJ5_sequencedEntrySet 0 := ⟨mJ5_sequencedEntrySet, q2409, Or.inl ⟨by unfold xNp; decide +kernel, ⟨by decide, by decide⟩, q2410, Or.inl q2408⟩⟩
theorem fgJ5_151_12 : xFL "java/util/LinkedHashMap" 151 12 1 := ⟨_, TJ5, 12, "java/util/LinkedHashMap", rfl, by decide, in_J5, Or.inr q269, Or.inl q268⟩
theorem nwJ5_154 : xNW "java/util/LinkedHashMap" 154 20 2 [.int 0, .null] := ⟨_, TJ39, tyJ39, ⟨rfl, in_J39, tyJ39_ok, nmJ39⟩, q2412, q2413, q183, fun j hj => by
  rcases (by omega : j = 0 ∨ j = 1) with rfl | rfl <;> rfl⟩
theorem ciJ5_156 : xCI "java/util/LinkedHashMap" 156 iJ39_init 2 := ⟨mJ39_init, rfl, q2416, by unfold xNp; decide +kernel, ⟨by decide, by decide⟩, q2415, Or.inl q2414⟩
theorem fpJ5_151_12 : xFP "java/util/LinkedHashMap" 151 12 1 (.object "java/util/Set") := ⟨_, TJ5, 12, "java/util/LinkedHashMap", tyJ5, ⟨rfl, in_J5, tyJ5_ok, nmJ5⟩, by decide, rfl, rfl, Or.inr q269, Or.inl q268⟩
theorem cvJ5_113_J5 : xCV "java/util/LinkedHashMap" 113 "java/util/LinkedHashMap" iJ5_sequencedKeySet 0 := ⟨mJ5_sequencedKeySet, q2523, Or.inl ⟨by unfold xNp; decide +kernel, ⟨by decide, by decide⟩, q2524, Or.inl q2522⟩⟩
theorem fgJ5_117_12 : xFL "java/util/LinkedHashMap" 117 12 6 := ⟨_, TJ5, 12, "java/util/LinkedHashMap", rfl, by decide, in_J5, Or.inr q282, Or.inl q281⟩
theorem nwJ5_121 : xNW "java/util/LinkedHashMap" 121 23 2 [.int 0, .null] := ⟨_, TJ46, tyJ46, ⟨rfl, in_J46, tyJ46_ok, nmJ46⟩, q2526, q2527, q190, fun j hj => by
  rcases (by omega : j = 0 ∨ j = 1) with rfl | rfl <;> rfl⟩
theorem ciJ5_123 : xCI "java/util/LinkedHashMap" 123 iJ46_init 2 := ⟨mJ46_init, rfl, q2530, by unfold xNp; decide +kernel, ⟨by decide, by decide⟩, q2529, Or.inl q2528⟩
theorem fpJ5_117_12 : xFP "java/util/LinkedHashMap" 117 12 6 (.object "java/util/Set") := ⟨_, TJ5, 12, "java/util/LinkedHashMap", tyJ5, ⟨rfl, in_J5, tyJ5_ok, nmJ5⟩, by decide, rfl, rfl, Or.inr q282, Or.inl q281⟩
theorem cuJ5_110 : xCU "java/util/LinkedHashMap" 110 iJ4_clear 0 := ⟨mJ4_clear, by decide, by unfold xNp; decide +kernel, q2651, q2656, q2652, q309⟩
theorem cvJ5_99_J5 : xCV "java/util/LinkedHashMap" 99 "java/util/LinkedHashMap" iJ4_getNode 1 := ⟨mJ4_getNode, q2679, Or.inr ⟨⟨"java/util/LinkedHashMap", "getNode", "(Ljava/lang/Object;)Ljava/util/HashMap$Node;"⟩, "java/util/HashMap", by unfold xNp; decide +kernel, ⟨by decide, by decide⟩, q2675, q2676, q2678, Or.inl q2677⟩⟩
theorem cvJ5_103_J5 : xCV "java/util/LinkedHashMap" 103 "java/util/LinkedHashMap" iJ5_afterNodeAccess 1 := ⟨mJ5_afterNodeAccess, q1905, Or.inl ⟨by unfold xNp; decide +kernel, ⟨by decide, by decide⟩, q4252, Or.inl q2685⟩⟩
theorem fgJ5_107_17 : xFL "java/util/LinkedHashMap" 107 17 2 := ⟨_, TJ32, 6, "java/util/HashMap$Node", rfl, by decide, in_J32, Or.inl rfl, Or.inl q1518⟩
theorem cvJ5_135_J5 : xCV "java/util/LinkedHashMap" 135 "java/util/LinkedHashMap" iJ5_sequencedValues 0 := ⟨mJ5_sequencedValues, q2984, Or.inl ⟨by unfold xNp; decide +kernel, ⟨by decide, by decide⟩, q2985, Or.inl q2983⟩⟩
theorem fgJ5_139_12 : xFL "java/util/LinkedHashMap" 139 12 7 := ⟨_, TJ5, 12, "java/util/LinkedHashMap", rfl, by decide, in_J5, Or.inr q284, Or.inl q283⟩
theorem nwJ5_143 : xNW "java/util/LinkedHashMap" 143 24 2 [.int 0, .null] := ⟨_, TJ49, tyJ49, ⟨rfl, in_J49, tyJ49_ok, nmJ49⟩, q2987, q2988, q194, fun j hj => by
  rcases (by omega : j = 0 ∨ j = 1) with rfl | rfl <;> rfl⟩
theorem ciJ5_145 : xCI "java/util/LinkedHashMap" 145 iJ49_init 2 := ⟨mJ49_init, rfl, q2991, by unfold xNp; decide +kernel, ⟨by decide, by decide⟩, q2990, Or.inl q2989⟩
theorem fpJ5_139_12 : xFP "java/util/LinkedHashMap" 139 12 7 (.object "java/util/Collection") := ⟨_, TJ5, 12, "java/util/LinkedHashMap", tyJ5, ⟨rfl, in_J5, tyJ5_ok, nmJ5⟩, by decide, rfl, rfl, Or.inr q284, Or.inl q283⟩
theorem ciJ6_1 : xCI "java/util/AbstractSet" 1 iJ0_init 0 := ⟨mJ0_init, rfl, q227, by unfold xNp; decide +kernel, ⟨by decide, by decide⟩, q226, Or.inl q322⟩
theorem ciJ7_1 : xCI "java/util/HashSet" 1 iJ6_init 0 := ⟨mJ6_init, rfl, q321, by unfold xNp; decide +kernel, ⟨by decide, by decide⟩, q320, Or.inl q319⟩
theorem nwJ7_42 : xNW "java/util/HashSet" 42 12 12 [.null, .null, .int 0, .int 0, .int 0, .float 0, .null, .null, .null, .null, .int 0, .int 0] := ⟨_, TJ5, tyJ5, ⟨rfl, in_J5, tyJ5_ok, nmJ5⟩, q323, q248, q138, fun j hj => by
  rcases (by omega : j = 0 ∨ j = 1 ∨ j = 2 ∨ j = 3 ∨ j = 4 ∨ j = 5 ∨ j = 6 ∨ j = 7 ∨ j = 8 ∨ j = 9 ∨ j = 10 ∨ j = 11) with rfl | rfl | rfl | rfl | rfl | rfl | rfl | rfl | rfl | rfl | rfl | rfl <;> rfl⟩
theorem ciJ7_44 : xCI "java/util/HashSet" 44 iJ5_init_2 2 := ⟨mJ5_init_2, rfl, q326, by unfold xNp; decide +kernel, ⟨by decide, by decide⟩, q325, Or.inl q324⟩
theorem fpJ7_10_13 : xFP "java/util/HashSet" 10 13 0 (.object "java/util/HashMap") := ⟨_, TJ8, 1, "java/util/HashSet", tyJ8, ⟨rfl, in_J8, tyJ8_ok, nmJ8⟩, by decide, rfl, rfl, Or.inl rfl, Or.inl q1151⟩
theorem fgJ7_10_13 : xFL "java/util/HashSet" 10 13 0 := ⟨_, TJ8, 1, "java/util/HashSet", rfl, by decide, in_J8, Or.inl rfl, Or.inl q1151⟩
theorem cvJ7_45_J5 : xCV "java/util/HashSet" 45 "java/util/LinkedHashMap" iJ5_keySet 0 := ⟨mJ5_keySet, q2520, Or.inr ⟨⟨"java/util/HashMap", "keySet", "()Ljava/util/Set;"⟩, "java/util/HashMap", by unfold xNp; decide +kernel, ⟨by decide, by decide⟩, q2516, q2518, q2519, Or.inl q2539⟩⟩
theorem cfJ7_49_J39 : xCF "java/util/HashSet" 49 "java/util/LinkedHashMap$LinkedEntrySet" iJ39_iterator 0 := ⟨mJ39_iterator, q2464, ⟨"java/util/Set", "iterator", "()Ljava/util/Iterator;"⟩, by unfold xNp; decide +kernel, ⟨by decide, by decide⟩, q2541, List.mem_of_getElem? (i := 32) rfl, q2462⟩
theorem cfJ7_49_J46 : xCF "java/util/HashSet" 49 "java/util/LinkedHashMap$LinkedKeySet" iJ46_iterator 0 := ⟨mJ46_iterator, q2495, ⟨"java/util/Set", "iterator", "()Ljava/util/Iterator;"⟩, by unfold xNp; decide +kernel, ⟨by decide, by decide⟩, q2541, List.mem_of_getElem? (i := 36) rfl, q2493⟩
theorem cfJ7_49_J8 : xCF "java/util/HashSet" 49 "java/util/LinkedHashSet" iJ7_iterator 0 := ⟨mJ7_iterator, q2513, ⟨"java/util/Set", "iterator", "()Ljava/util/Iterator;"⟩, by unfold xNp; decide +kernel, ⟨by decide, by decide⟩, q2541, List.mem_of_getElem? (i := 41) rfl, q2511⟩
theorem cvJ7_68_J5 : xCV "java/util/HashSet" 68 "java/util/LinkedHashMap" iJ4_put 2 := ⟨mJ4_put, q1356, Or.inl ⟨by unfold xNp; decide +kernel, ⟨by decide, by decide⟩, q4251, Or.inl q2586⟩⟩
theorem cvJ7_76_J5 : xCV "java/util/HashSet" 76 "java/util/LinkedHashMap" iJ5_clear 0 := ⟨mJ5_clear, q2654, Or.inr ⟨⟨"java/util/HashMap", "clear", "()V"⟩, "java/util/HashMap", by unfold xNp; decide +kernel, ⟨by decide, by decide⟩, q2650, q2652, q2653, Or.inl q2658⟩⟩
theorem cvJ7_55_J5 : xCV "java/util/HashSet" 55 "java/util/LinkedHashMap" iJ4_size 0 := ⟨mJ4_size, q3075, Or.inl ⟨by unfold xNp; decide +kernel, ⟨by decide, by decide⟩, q3077, Or.inl q3074⟩⟩
theorem ciJ8_1 : xCI "java/util/LinkedHashSet" 1 iJ7_init 3 := ⟨mJ7_init, rfl, q318, by unfold xNp; decide +kernel, ⟨by decide, by decide⟩, q317, Or.inl q316⟩
theorem fFJ31_7_17 : xFF "java/util/HashMap$Node" 7 17 0 .int := ⟨_, TJ32, 6, "java/util/HashMap$Node", tyJ32, ⟨rfl, in_J32, tyJ32_ok, nmJ32⟩, by decide, rfl, rfl, rfl, Or.inl rfl, q1500⟩
theorem fFJ31_13_17 : xFF "java/util/HashMap$Node" 13 17 1 (.object "java/lang/Object") := ⟨_, TJ32, 6, "java/util/HashMap$Node", tyJ32, ⟨rfl, in_J32, tyJ32_ok, nmJ32⟩, by decide, rfl, rfl, rfl, Or.inl rfl, q1506⟩
theorem fpJ31_17_17 : xFP "java/util/HashMap$Node" 17 17 2 (.object "java/lang/Object") := ⟨_, TJ32, 6, "java/util/HashMap$Node", tyJ32, ⟨rfl, in_J32, tyJ32_ok, nmJ32⟩, by decide, rfl, rfl, Or.inl rfl, Or.inl q1513⟩
theorem fpJ31_20_17 : xFP "java/util/HashMap$Node" 20 17 3 (.object "java/util/HashMap$Node") := ⟨_, TJ32, 6, "java/util/HashMap$Node", tyJ32, ⟨rfl, in_J32, tyJ32_ok, nmJ32⟩, by decide, rfl, rfl, Or.inl rfl, Or.inl q1519⟩
theorem fgJ31_13_17 : xFL "java/util/HashMap$Node" 13 17 1 := ⟨_, TJ32, 6, "java/util/HashMap$Node", rfl, by decide, in_J32, Or.inl rfl, Or.inl q1506⟩
theorem fgJ31_17_17 : xFL "java/util/HashMap$Node" 17 17 2 := ⟨_, TJ32, 6, "java/util/HashMap$Node", rfl, by decide, in_J32, Or.inl rfl, Or.inl q1513⟩
theorem ciJ32_1 : xCI "java/util/LinkedHashMap$Entry" 1 iJ31_init 4 := ⟨mJ31_init, rfl, q1494, by unfold xNp; decide +kernel, ⟨by decide, by decide⟩, q1493, Or.inl q1492⟩
theorem fFJ39_1_20 : xFF "java/util/LinkedHashMap$LinkedEntrySet" 1 20 1 (.object "java/util/LinkedHashMap") := ⟨_, TJ39, 2, "java/util/LinkedHashMap$LinkedEntrySet", tyJ39, ⟨rfl, in_J39, tyJ39_ok, nmJ39⟩, by decide, rfl, rfl, rfl, Or.inl rfl, q2419⟩
theorem ciJ39_7 : xCI "java/util/LinkedHashMap$LinkedEntrySet" 7 iJ6_init 0 := ⟨mJ6_init, rfl, q321, by unfold xNp; decide +kernel, ⟨by decide, by decide⟩, q320, Or.inl q2417⟩
theorem fFJ39_13_20 : xFF "java/util/LinkedHashMap$LinkedEntrySet" 13 20 0 .boolean := ⟨_, TJ39, 2, "java/util/LinkedHashMap$LinkedEntrySet", tyJ39, ⟨rfl, in_J39, tyJ39_ok, nmJ39⟩, by decide, rfl, rfl, rfl, Or.inl rfl, q2418⟩
theorem nwJ39_26 : xNW "java/util/LinkedHashMap$LinkedEntrySet" 26 21 5 [.null, .null, .int 0, .int 0, .null] := ⟨_, TJ43, tyJ43, ⟨rfl, in_J43, tyJ43_ok, nmJ43⟩, q2467, q2468, q187, fun j hj => by
  rcases (by omega : j = 0 ∨ j = 1 ∨ j = 2 ∨ j = 3 ∨ j = 4) with rfl | rfl | rfl | rfl | rfl <;> rfl⟩
theorem fgJ39_1_20 : xFL "java/util/LinkedHashMap$LinkedEntrySet" 1 20 1 := ⟨_, TJ39, 2, "java/util/LinkedHashMap$LinkedEntrySet", rfl, by decide, in_J39, Or.inl rfl, Or.inl q2419⟩
theorem fgJ39_13_20 : xFL "java/util/LinkedHashMap$LinkedEntrySet" 13 20 0 := ⟨_, TJ39, 2, "java/util/LinkedHashMap$LinkedEntrySet", rfl, by decide, in_J39, Or.inl rfl, Or.inl q2418⟩
theorem ciJ39_28 : xCI "java/util/LinkedHashMap$LinkedEntrySet" 28 iJ43_init 2 := ⟨mJ43_init, rfl, q2471, by unfold xNp; decide +kernel, ⟨by decide, by decide⟩, q2470, Or.inl q2469⟩
theorem fgJ40_13_12 : xFL "java/util/HashMap$HashIterator" 13 12 3 := ⟨_, TJ5, 12, "java/util/HashMap", rfl, by decide, in_J5, Or.inl rfl, Or.inl q272⟩
theorem fgJ40_45_17 : xFL "java/util/HashMap$HashIterator" 45 17 3 := ⟨_, TJ32, 6, "java/util/HashMap$Node", rfl, by decide, in_J32, Or.inl rfl, Or.inl q1520⟩
theorem fgJ40_22_12 : xFL "java/util/HashMap$HashIterator" 22 12 0 := ⟨_, TJ5, 12, "java/util/HashMap", rfl, by decide, in_J5, Or.inl rfl, Or.inl q266⟩
theorem fgJ40_36_12 : xFL "java/util/HashMap$HashIterator" 36 12 2 := ⟨_, TJ5, 12, "java/util/HashMap", rfl, by decide, in_J5, Or.inl rfl, Or.inl q270⟩
theorem fgJ41_13_17 : xFL "java/util/HashMap$KeyIterator" 13 17 1 := ⟨_, TJ32, 6, "java/util/HashMap$Node", rfl, by decide, in_J32, Or.inl rfl, Or.inl q1507⟩
theorem ciJ41_1 : xCI "java/util/HashMap$KeyIterator" 1 iJ40_init 1 := ⟨mJ40_init, rfl, q2443, by unfold xNp; decide +kernel, ⟨by decide, by decide⟩, q2442, Or.inl q2441⟩
theorem fgJ42_26_21 : xFL "java/util/LinkedHashMap$LinkedHashIterator" 26 21 0 := ⟨_, TJ43, 5, "java/util/LinkedHashMap$LinkedHashIterator", rfl, by decide, in_J43, Or.inl rfl, Or.inl q2476⟩
theorem fgJ42_26_22 : xFL "java/util/LinkedHashMap$LinkedHashIterator" 26 22 0 := ⟨_, TJ44, 5, "java/util/LinkedHashMap$LinkedHashIterator", rfl, by decide, in_J44, Or.inl rfl, Or.inl q2476⟩
theorem fgJ42_26_25 : xFL "java/util/LinkedHashMap$LinkedHashIterator" 26 25 0 := ⟨_, TJ51, 5, "java/util/LinkedHashMap$LinkedHashIterator", rfl, by decide, in_J51, Or.inl rfl, Or.inl q2476⟩
theorem fgJ42_1_21 : xFL "java/util/LinkedHashMap$LinkedHashIterator" 1 21 4 := ⟨_, TJ43, 5, "java/util/LinkedHashMap$LinkedHashIterator", rfl, by decide, in_J43, Or.inl rfl, Or.inl q2480⟩
theorem fgJ42_1_22 : xFL "java/util/LinkedHashMap$LinkedHashIterator" 1 22 4 := ⟨_, TJ44, 5, "java/util/LinkedHashMap$LinkedHashIterator", rfl, by decide, in_J44, Or.inl rfl, Or.inl q2480⟩
theorem fgJ42_1_25 : xFL "java/util/LinkedHashMap$LinkedHashIterator" 1 25 4 := ⟨_, TJ51, 5, "java/util/LinkedHashMap$LinkedHashIterator", rfl, by decide, in_J51, Or.inl rfl, Or.inl q2480⟩
theorem fgJ42_29_12 : xFL "java/util/LinkedHashMap$LinkedHashIterator" 29 12 3 := ⟨_, TJ5, 12, "java/util/LinkedHashMap", rfl, by decide, in_J5, Or.inr q274, Or.inl q273⟩
theorem fgJ42_33_21 : xFL "java/util/LinkedHashMap$LinkedHashIterator" 33 21 2 := ⟨_, TJ43, 5, "java/util/LinkedHashMap$LinkedHashIterator", rfl, by decide, in_J43, Or.inl rfl, Or.inl q2478⟩
theorem fgJ42_33_22 : xFL "java/util/LinkedHashMap$LinkedHashIterator" 33 22 2 := ⟨_, TJ44, 5, "java/util/LinkedHashMap$LinkedHashIterator", rfl, by decide, in_J44, Or.inl rfl, Or.inl q2478⟩
theorem fgJ42_33_25 : xFL "java/util/LinkedHashMap$LinkedHashIterator" 33 25 2 := ⟨_, TJ51, 5, "java/util/LinkedHashMap$LinkedHashIterator", rfl, by decide, in_J51, Or.inl rfl, Or.inl q2478⟩
theorem fpJ42_36_21 : xFP "java/util/LinkedHashMap$LinkedHashIterator" 36 21 1 (.object "java/util/LinkedHashMap$Entry") := ⟨_, TJ43, 5, "java/util/LinkedHashMap$LinkedHashIterator", tyJ43, ⟨rfl, in_J43, tyJ43_ok, nmJ43⟩, by decide, rfl, rfl, Or.inl rfl, Or.inl q2477⟩
theorem fpJ42_36_22 : xFP "java/util/LinkedHashMap$LinkedHashIterator" 36 22 1 (.object "java/util/LinkedHashMap$Entry") := ⟨_, TJ44, 5, "java/util/LinkedHashMap$LinkedHashIterator", tyJ44, ⟨rfl, in_J44, tyJ44_ok, nmJ44⟩, by decide, rfl, rfl, Or.inl rfl, Or.inl q2477⟩
theorem fpJ42_36_25 : xFP "java/util/LinkedHashMap$LinkedHashIterator" 36 25 1 (.object "java/util/LinkedHashMap$Entry") := ⟨_, TJ51, 5, "java/util/LinkedHashMap$LinkedHashIterator", tyJ51, ⟨rfl, in_J51, tyJ51_ok, nmJ51⟩, by decide, rfl, rfl, Or.inl rfl, Or.inl q2477⟩
theorem fgJ42_13_21 : xFL "java/util/LinkedHashMap$LinkedHashIterator" 13 21 3 := ⟨_, TJ43, 5, "java/util/LinkedHashMap$LinkedHashIterator", rfl, by decide, in_J43, Or.inl rfl, Or.inl q2479⟩
theorem fgJ42_13_22 : xFL "java/util/LinkedHashMap$LinkedHashIterator" 13 22 3 := ⟨_, TJ44, 5, "java/util/LinkedHashMap$LinkedHashIterator", rfl, by decide, in_J44, Or.inl rfl, Or.inl q2479⟩
theorem fgJ42_13_25 : xFL "java/util/LinkedHashMap$LinkedHashIterator" 13 25 3 := ⟨_, TJ51, 5, "java/util/LinkedHashMap$LinkedHashIterator", rfl, by decide, in_J51, Or.inl rfl, Or.inl q2479⟩
theorem fgJ42_45_17 : xFL "java/util/LinkedHashMap$LinkedHashIterator" 45 17 4 := ⟨_, TJ32, 6, "java/util/LinkedHashMap$Entry", rfl, by decide, in_J32, Or.inl rfl, Or.inl q1497⟩
theorem fgJ42_50_17 : xFL "java/util/LinkedHashMap$LinkedHashIterator" 50 17 5 := ⟨_, TJ32, 6, "java/util/LinkedHashMap$Entry", rfl, by decide, in_J32, Or.inl rfl, Or.inl q1499⟩
theorem fpJ42_26_21 : xFP "java/util/LinkedHashMap$LinkedHashIterator" 26 21 0 (.object "java/util/LinkedHashMap$Entry") := ⟨_, TJ43, 5, "java/util/LinkedHashMap$LinkedHashIterator", tyJ43, ⟨rfl, in_J43, tyJ43_ok, nmJ43⟩, by decide, rfl, rfl, Or.inl rfl, Or.inl q2476⟩
theorem fpJ42_26_22 : xFP "java/util/LinkedHashMap$LinkedHashIterator" 26 22 0 (.object "java/util/LinkedHashMap$Entry") := ⟨_, TJ44, 5, "java/util/LinkedHashMap$LinkedHashIterator", tyJ44, ⟨rfl, in_J44, tyJ44_ok, nmJ44⟩, by decide, rfl, rfl, Or.inl rfl, Or.inl q2476⟩
theorem fpJ42_26_25 : xFP "java/util/LinkedHashMap$LinkedHashIterator" 26 25 0 (.object "java/util/LinkedHashMap$Entry") := ⟨_, TJ51, 5, "java/util/LinkedHashMap$LinkedHashIterator", tyJ51, ⟨rfl, in_J51, tyJ51_ok, nmJ51⟩, by decide, rfl, rfl, Or.inl rfl, Or.inl q2476⟩
theorem fFJ42_1_21 : xFF "java/util/LinkedHashMap$LinkedHashIterator" 1 21 4 (.object "java/util/LinkedHashMap") := ⟨_, TJ43, 5, "java/util/LinkedHashMap$LinkedHashIterator", tyJ43, ⟨rfl, in_J43, tyJ43_ok, nmJ43⟩, by decide, rfl, rfl, rfl, Or.inl rfl, q2480⟩
theorem fFJ42_1_22 : xFF "java/util/LinkedHashMap$LinkedHashIterator" 1 22 4 (.object "java/util/LinkedHashMap") := ⟨_, TJ44, 5, "java/util/LinkedHashMap$LinkedHashIterator", tyJ44, ⟨rfl, in_J44, tyJ44_ok, nmJ44⟩, by decide, rfl, rfl, rfl, Or.inl rfl, q2480⟩
theorem fFJ42_1_25 : xFF "java/util/LinkedHashMap$LinkedHashIterator" 1 25 4 (.object "java/util/LinkedHashMap") := ⟨_, TJ51, 5, "java/util/LinkedHashMap$LinkedHashIterator", tyJ51, ⟨rfl, in_J51, tyJ51_ok, nmJ51⟩, by decide, rfl, rfl, rfl, Or.inl rfl, q2480⟩
theorem fpJ42_13_21 : xFP "java/util/LinkedHashMap$LinkedHashIterator" 13 21 3 .boolean := ⟨_, TJ43, 5, "java/util/LinkedHashMap$LinkedHashIterator", tyJ43, ⟨rfl, in_J43, tyJ43_ok, nmJ43⟩, by decide, rfl, rfl, Or.inl rfl, Or.inl q2479⟩
theorem fpJ42_13_22 : xFP "java/util/LinkedHashMap$LinkedHashIterator" 13 22 3 .boolean := ⟨_, TJ44, 5, "java/util/LinkedHashMap$LinkedHashIterator", tyJ44, ⟨rfl, in_J44, tyJ44_ok, nmJ44⟩, by decide, rfl, rfl, Or.inl rfl, Or.inl q2479⟩
theorem fpJ42_13_25 : xFP "java/util/LinkedHashMap$LinkedHashIterator" 13 25 3 .boolean := ⟨_, TJ51, 5, "java/util/LinkedHashMap$LinkedHashIterator", tyJ51, ⟨rfl, in_J51, tyJ51_ok, nmJ51⟩, by decide, rfl, rfl, Or.inl rfl, Or.inl q2479⟩
theorem fgJ42_17_12 : xFL "java/util/LinkedHashMap$LinkedHashIterator" 17 12 9 := ⟨_, TJ5, 12, "java/util/LinkedHashMap", rfl, by decide, in_J5, Or.inl rfl, Or.inl q262⟩
theorem fgJ42_23_12 : xFL "java/util/LinkedHashMap$LinkedHashIterator" 23 12 8 := ⟨_, TJ5, 12, "java/util/LinkedHashMap", rfl, by decide, in_J5, Or.inl rfl, Or.inl q261⟩
theorem fpJ42_33_21 : xFP "java/util/LinkedHashMap$LinkedHashIterator" 33 21 2 .int := ⟨_, TJ43, 5, "java/util/LinkedHashMap$LinkedHashIterator", tyJ43, ⟨rfl, in_J43, tyJ43_ok, nmJ43⟩, by decide, rfl, rfl, Or.inl rfl, Or.inl q2478⟩
theorem fpJ42_33_22 : xFP "java/util/LinkedHashMap$LinkedHashIterator" 33 22 2 .int := ⟨_, TJ44, 5, "java/util/LinkedHashMap$LinkedHashIterator", tyJ44, ⟨rfl, in_J44, tyJ44_ok, nmJ44⟩, by decide, rfl, rfl, Or.inl rfl, Or.inl q2478⟩
theorem fpJ42_33_25 : xFP "java/util/LinkedHashMap$LinkedHashIterator" 33 25 2 .int := ⟨_, TJ51, 5, "java/util/LinkedHashMap$LinkedHashIterator", tyJ51, ⟨rfl, in_J51, tyJ51_ok, nmJ51⟩, by decide, rfl, rfl, Or.inl rfl, Or.inl q2478⟩
theorem cvJ43_13_J43 : xCV "java/util/LinkedHashMap$LinkedEntryIterator" 13 "java/util/LinkedHashMap$LinkedEntryIterator" iJ43_next_2 0 := ⟨mJ43_next_2, q2367, Or.inl ⟨by unfold xNp; decide +kernel, ⟨by decide, by decide⟩, q2368, Or.inl q2366⟩⟩
theorem cvJ43_7_J43 : xCV "java/util/LinkedHashMap$LinkedEntryIterator" 7 "java/util/LinkedHashMap$LinkedEntryIterator" iJ42_nextNode 0 := ⟨mJ42_nextNode, q2374, Or.inr ⟨⟨"java/util/LinkedHashMap$LinkedEntryIterator", "nextNode", "()Ljava/util/LinkedHashMap$Entry;"⟩, "java/util/LinkedHashMap$LinkedHashIterator", by unfold xNp; decide +kernel, ⟨by decide, by decide⟩, q2370, q2371, q2373, Or.inl q2372⟩⟩
theorem ciJ43_1 : xCI "java/util/LinkedHashMap$LinkedEntryIterator" 1 iJ42_init 2 := ⟨mJ42_init, rfl, q2474, by unfold xNp; decide +kernel, ⟨by decide, by decide⟩, q2473, Or.inl q2472⟩
theorem cvJ44_7_J44 : xCV "java/util/LinkedHashMap$LinkedKeyIterator" 7 "java/util/LinkedHashMap$LinkedKeyIterator" iJ42_nextNode 0 := ⟨mJ42_nextNode, q2374, Or.inr ⟨⟨"java/util/LinkedHashMap$LinkedKeyIterator", "nextNode", "()Ljava/util/LinkedHashMap$Entry;"⟩, "java/util/LinkedHashMap$LinkedHashIterator", by unfold xNp; decide +kernel, ⟨by decide, by decide⟩, q2381, q2382, q2383, Or.inl q2372⟩⟩
theorem cvJ44_13_J32 : xCV "java/util/LinkedHashMap$LinkedKeyIterator" 13 "java/util/LinkedHashMap$Entry" iJ31_getKey 0 := ⟨mJ31_getKey, q2389, Or.inr ⟨⟨"java/util/LinkedHashMap$Entry", "getKey", "()Ljava/lang/Object;"⟩, "java/util/HashMap$Node", by unfold xNp; decide +kernel, ⟨by decide, by decide⟩, q2384, q2385, q2388, Or.inl q2386⟩⟩
theorem ciJ44_1 : xCI "java/util/LinkedHashMap$LinkedKeyIterator" 1 iJ42_init 2 := ⟨mJ42_init, rfl, q2474, by unfold xNp; decide +kernel, ⟨by decide, by decide⟩, q2473, Or.inl q2503⟩
theorem ciJ45_24 : xCI "java/util/HashMap$KeySet" 24 iJ41_init 1 := ⟨mJ41_init, rfl, q2440, by unfold xNp; decide +kernel, ⟨by decide, by decide⟩, q2439, Or.inl q2438⟩
theorem nwJ46_26 : xNW "java/util/LinkedHashMap$LinkedKeySet" 26 22 5 [.null, .null, .int 0, .int 0, .null] := ⟨_, TJ44, tyJ44, ⟨rfl, in_J44, tyJ44_ok, nmJ44⟩, q2498, q2499, q188, fun j hj => by
  rcases (by omega : j = 0 ∨ j = 1 ∨ j = 2 ∨ j = 3 ∨ j = 4) with rfl | rfl | rfl | rfl | rfl <;> rfl⟩
theorem fgJ46_1_23 : xFL "java/util/LinkedHashMap$LinkedKeySet" 1 23 1 := ⟨_, TJ46, 2, "java/util/LinkedHashMap$LinkedKeySet", rfl, by decide, in_J46, Or.inl rfl, Or.inl q2533⟩
theorem fgJ46_13_23 : xFL "java/util/LinkedHashMap$LinkedKeySet" 13 23 0 := ⟨_, TJ46, 2, "java/util/LinkedHashMap$LinkedKeySet", rfl, by decide, in_J46, Or.inl rfl, Or.inl q2532⟩
theorem ciJ46_28 : xCI "java/util/LinkedHashMap$LinkedKeySet" 28 iJ44_init 2 := ⟨mJ44_init, rfl, q2502, by unfold xNp; decide +kernel, ⟨by decide, by decide⟩, q2501, Or.inl q2500⟩
theorem fFJ46_1_23 : xFF "java/util/LinkedHashMap$LinkedKeySet" 1 23 1 (.object "java/util/LinkedHashMap") := ⟨_, TJ46, 2, "java/util/LinkedHashMap$LinkedKeySet", tyJ46, ⟨rfl, in_J46, tyJ46_ok, nmJ46⟩, by decide, rfl, rfl, rfl, Or.inl rfl, q2533⟩
theorem ciJ46_7 : xCI "java/util/LinkedHashMap$LinkedKeySet" 7 iJ6_init 0 := ⟨mJ6_init, rfl, q321, by unfold xNp; decide +kernel, ⟨by decide, by decide⟩, q320, Or.inl q2531⟩
theorem fFJ46_13_23 : xFF "java/util/LinkedHashMap$LinkedKeySet" 13 23 0 .boolean := ⟨_, TJ46, 2, "java/util/LinkedHashMap$LinkedKeySet", tyJ46, ⟨rfl, in_J46, tyJ46_ok, nmJ46⟩, by decide, rfl, rfl, rfl, Or.inl rfl, q2532⟩
theorem fFJ49_1_24 : xFF "java/util/LinkedHashMap$LinkedValues" 1 24 1 (.object "java/util/LinkedHashMap") := ⟨_, TJ49, 2, "java/util/LinkedHashMap$LinkedValues", tyJ49, ⟨rfl, in_J49, tyJ49_ok, nmJ49⟩, by decide, rfl, rfl, rfl, Or.inl rfl, q2994⟩
theorem ciJ49_7 : xCI "java/util/LinkedHashMap$LinkedValues" 7 iJ0_init 0 := ⟨mJ0_init, rfl, q227, by unfold xNp; decide +kernel, ⟨by decide, by decide⟩, q226, Or.inl q2992⟩
theorem fFJ49_13_24 : xFF "java/util/LinkedHashMap$LinkedValues" 13 24 0 .boolean := ⟨_, TJ49, 2, "java/util/LinkedHashMap$LinkedValues", tyJ49, ⟨rfl, in_J49, tyJ49_ok, nmJ49⟩, by decide, rfl, rfl, rfl, Or.inl rfl, q2993⟩
theorem nwJ49_26 : xNW "java/util/LinkedHashMap$LinkedValues" 26 25 5 [.null, .null, .int 0, .int 0, .null] := ⟨_, TJ51, tyJ51, ⟨rfl, in_J51, tyJ51_ok, nmJ51⟩, q3050, q3051, q196, fun j hj => by
  rcases (by omega : j = 0 ∨ j = 1 ∨ j = 2 ∨ j = 3 ∨ j = 4) with rfl | rfl | rfl | rfl | rfl <;> rfl⟩
theorem fgJ49_1_24 : xFL "java/util/LinkedHashMap$LinkedValues" 1 24 1 := ⟨_, TJ49, 2, "java/util/LinkedHashMap$LinkedValues", rfl, by decide, in_J49, Or.inl rfl, Or.inl q2994⟩
theorem fgJ49_13_24 : xFL "java/util/LinkedHashMap$LinkedValues" 13 24 0 := ⟨_, TJ49, 2, "java/util/LinkedHashMap$LinkedValues", rfl, by decide, in_J49, Or.inl rfl, Or.inl q2993⟩
theorem ciJ49_28 : xCI "java/util/LinkedHashMap$LinkedValues" 28 iJ51_init 2 := ⟨mJ51_init, rfl, q3054, by unfold xNp; decide +kernel, ⟨by decide, by decide⟩, q3053, Or.inl q3052⟩
theorem cvJ51_7_J51 : xCV "java/util/LinkedHashMap$LinkedValueIterator" 7 "java/util/LinkedHashMap$LinkedValueIterator" iJ42_nextNode 0 := ⟨mJ42_nextNode, q2374, Or.inr ⟨⟨"java/util/LinkedHashMap$LinkedValueIterator", "nextNode", "()Ljava/util/LinkedHashMap$Entry;"⟩, "java/util/LinkedHashMap$LinkedHashIterator", by unfold xNp; decide +kernel, ⟨by decide, by decide⟩, q2396, q2397, q2398, Or.inl q2372⟩⟩
theorem fgJ51_13_17 : xFL "java/util/LinkedHashMap$LinkedValueIterator" 13 17 2 := ⟨_, TJ32, 6, "java/util/LinkedHashMap$Entry", rfl, by decide, in_J32, Or.inr q1515, Or.inl q1514⟩
theorem ciJ51_1 : xCI "java/util/LinkedHashMap$LinkedValueIterator" 1 iJ42_init 2 := ⟨mJ42_init, rfl, q2474, by unfold xNp; decide +kernel, ⟨by decide, by decide⟩, q2473, Or.inl q3055⟩
theorem ciJ36_42 : xCI "java/util/ArrayDeque" 42 iJ0_init 0 := ⟨mJ0_init, rfl, q227, by unfold xNp; decide +kernel, ⟨by decide, by decide⟩, q226, Or.inl q1931⟩
theorem fpJ36_3_18 : xFP "java/util/ArrayDeque" 3 18 0 (.array (.object "java/lang/Object")) := ⟨_, TJ36, 3, "java/util/ArrayDeque", tyJ36, ⟨rfl, in_J36, tyJ36_ok, nmJ36⟩, by decide, rfl, rfl, Or.inl rfl, Or.inl q1933⟩
theorem fgJ36_3_18 : xFL "java/util/ArrayDeque" 3 18 0 := ⟨_, TJ36, 3, "java/util/ArrayDeque", rfl, by decide, in_J36, Or.inl rfl, Or.inl q1933⟩
theorem fgJ36_24_18 : xFL "java/util/ArrayDeque" 24 18 1 := ⟨_, TJ36, 3, "java/util/ArrayDeque", rfl, by decide, in_J36, Or.inl rfl, Or.inl q1936⟩
theorem fgJ36_20_18 : xFL "java/util/ArrayDeque" 20 18 2 := ⟨_, TJ36, 3, "java/util/ArrayDeque", rfl, by decide, in_J36, Or.inl rfl, Or.inl q1937⟩
theorem csJ36_181 : xCS "java/util/ArrayDeque" 181 iJ36_circularClear 3 := ⟨mJ36_circularClear, by unfold xNp; decide +kernel, ⟨by decide, by decide⟩, q1956, Or.inl q1955⟩
theorem fpJ36_20_18 : xFP "java/util/ArrayDeque" 20 18 2 .int := ⟨_, TJ36, 3, "java/util/ArrayDeque", tyJ36, ⟨rfl, in_J36, tyJ36_ok, nmJ36⟩, by decide, rfl, rfl, Or.inl rfl, Or.inl q1937⟩
theorem fpJ36_24_18 : xFP "java/util/ArrayDeque" 24 18 1 .int := ⟨_, TJ36, 3, "java/util/ArrayDeque", tyJ36, ⟨rfl, in_J36, tyJ36_ok, nmJ36⟩, by decide, rfl, rfl, Or.inl rfl, Or.inl q1936⟩
theorem csJ36_127 : xCS "java/util/ArrayDeque" 127 iJ36_sub 3 := ⟨mJ36_sub, by unfold xNp; decide +kernel, ⟨by decide, by decide⟩, q2832, Or.inl q2831⟩
theorem cvJ36_93_J36 : xCV "java/util/ArrayDeque" 93 "java/util/ArrayDeque" iJ36_pollFirst 0 := ⟨mJ36_pollFirst, q2839, Or.inl ⟨by unfold xNp; decide +kernel, ⟨by decide, by decide⟩, q2840, Or.inl q2838⟩⟩
theorem csJ36_103 : xCS "java/util/ArrayDeque" 103 iJ36_elementAt 2 := ⟨mJ36_elementAt, by unfold xNp; decide +kernel, ⟨by decide, by decide⟩, q2843, Or.inl q2842⟩
theorem csJ36_74 : xCS "java/util/ArrayDeque" 74 iJ36_inc 2 := ⟨mJ36_inc, by unfold xNp; decide +kernel, ⟨by decide, by decide⟩, q2339, Or.inl q2845⟩
theorem cvJ36_71_J36 : xCV "java/util/ArrayDeque" 71 "java/util/ArrayDeque" iJ36_grow 1 := ⟨mJ36_grow, q2853, Or.inl ⟨by unfold xNp; decide +kernel, ⟨by decide, by decide⟩, qs44, Or.inl q2851⟩⟩
theorem cvJ36_10_J36 : xCV "java/util/ArrayDeque" 10 "java/util/ArrayDeque" iJ36_newCapacity 2 := ⟨mJ36_newCapacity, q2858, Or.inl ⟨by unfold xNp; decide +kernel, ⟨by decide, by decide⟩, qs45, Or.inl q2856⟩⟩
theorem csJ36_14 : xCS "java/util/ArrayDeque" 14 iJ19_copyOf_2 2 := ⟨mJ19_copyOf_2, by unfold xNp; decide +kernel, ⟨by decide, by decide⟩, q1303, Or.inl q2867⟩
theorem ciJ36_37 : xCI "java/util/ArrayDeque" 37 iJ29_init_3 1 := ⟨mJ29_init_3, rfl, q2864, by unfold xNp; decide +kernel, ⟨by decide, by decide⟩, q2863, Or.inl q2862⟩
theorem cvJ36_100_J36 : xCV "java/util/ArrayDeque" 100 "java/util/ArrayDeque" iJ36_pollLast 0 := ⟨mJ36_pollLast, q3473, Or.inl ⟨by unfold xNp; decide +kernel, ⟨by decide, by decide⟩, q3474, Or.inl q3472⟩⟩
theorem csJ36_68 : xCS "java/util/ArrayDeque" 68 iJ36_dec 2 := ⟨mJ36_dec, by unfold xNp; decide +kernel, ⟨by decide, by decide⟩, q3477, Or.inl q3476⟩
theorem fpJ13_15_14 : xFP "java/lang/AbstractStringBuilder" 15 14 0 (.array .byte) := ⟨_, TJ14, 4, "java/lang/AbstractStringBuilder", tyJ14, ⟨rfl, in_J14, tyJ14_ok, nmJ14⟩, by decide, rfl, rfl, Or.inl rfl, Or.inl q393⟩
theorem fpJ13_22_14 : xFP "java/lang/AbstractStringBuilder" 22 14 1 .byte := ⟨_, TJ14, 4, "java/lang/AbstractStringBuilder", tyJ14, ⟨rfl, in_J14, tyJ14_ok, nmJ14⟩, by decide, rfl, rfl, Or.inl rfl, Or.inl q394⟩
theorem csJ13_26 : xCS "java/lang/AbstractStringBuilder" 26 iJ16_newBytesFor 1 := ⟨mJ16_newBytesFor, by unfold xNp; decide +kernel, ⟨by decide, by decide⟩, q387, Or.inl q386⟩
theorem cvJ13_32_J15 : xCV "java/lang/AbstractStringBuilder" 32 "java/lang/String" iJ15_length 0 := ⟨mJ15_length, q487, Or.inl ⟨by unfold xNp; decide +kernel, ⟨by decide, by decide⟩, q488, Or.inl q486⟩⟩
theorem fgJ13_79_14 : xFL "java/lang/AbstractStringBuilder" 79 14 3 := ⟨_, TJ14, 4, "java/lang/AbstractStringBuilder", rfl, by decide, in_J14, Or.inl rfl, Or.inl q397⟩
theorem fpJ13_79_14 : xFP "java/lang/AbstractStringBuilder" 79 14 3 .int := ⟨_, TJ14, 4, "java/lang/AbstractStringBuilder", tyJ14, ⟨rfl, in_J14, tyJ14_ok, nmJ14⟩, by decide, rfl, rfl, Or.inl rfl, Or.inl q397⟩
theorem fgJ13_15_14 : xFL "java/lang/AbstractStringBuilder" 15 14 0 := ⟨_, TJ14, 4, "java/lang/AbstractStringBuilder", rfl, by decide, in_J14, Or.inl rfl, Or.inl q393⟩
theorem cvJ13_83_J14 : xCV "java/lang/AbstractStringBuilder" 83 "java/lang/StringBuilder" iJ13_isLatin1 0 := ⟨mJ13_isLatin1, q456, Or.inl ⟨by unfold xNp; decide +kernel, ⟨by decide, by decide⟩, q458, Or.inl q455⟩⟩
theorem csJ13_226 : xCS "java/lang/AbstractStringBuilder" 226 iJ16_putCharsAt 6 := ⟨mJ16_putCharsAt, by unfold xNp; decide +kernel, ⟨by decide, by decide⟩, q461, Or.inl q460⟩
theorem fgJ13_22_14 : xFL "java/lang/AbstractStringBuilder" 22 14 1 := ⟨_, TJ14, 4, "java/lang/AbstractStringBuilder", rfl, by decide, in_J14, Or.inl rfl, Or.inl q394⟩
theorem csJ13_108 : xCS "java/lang/AbstractStringBuilder" 108 iJ19_copyOf 2 := ⟨mJ19_copyOf, by unfold xNp; decide +kernel, ⟨by decide, by decide⟩, q440, Or.inl q439⟩
theorem csJ13_114 : xCS "java/lang/AbstractStringBuilder" 114 iJ17_newLength 3 := ⟨mJ17_newLength, by unfold xNp; decide +kernel, ⟨by decide, by decide⟩, q429, Or.inl q428⟩
theorem cvJ13_399_J15 : xCV "java/lang/AbstractStringBuilder" 399 "java/lang/String" iJ15_getBytes 3 := ⟨mJ15_getBytes, q524, Or.inl ⟨by unfold xNp; decide +kernel, ⟨by decide, by decide⟩, q525, Or.inl q523⟩⟩
theorem cvJ13_40_J15 : xCV "java/lang/AbstractStringBuilder" 40 "java/lang/String" iJ15_coder 0 := ⟨mJ15_coder, q491, Or.inl ⟨by unfold xNp; decide +kernel, ⟨by decide, by decide⟩, q492, Or.inl q503⟩⟩
theorem csJ13_125 : xCS "java/lang/AbstractStringBuilder" 125 iJ21_inflate 5 := ⟨mJ21_inflate, by unfold xNp; decide +kernel, ⟨by decide, by decide⟩, q509, Or.inl q508⟩
theorem csJ13_245 : xCS "java/lang/AbstractStringBuilder" 245 iJ23_stringSize 1 := ⟨mJ23_stringSize, by unfold xNp; decide +kernel, ⟨by decide, by decide⟩, q537, Or.inl q536⟩
theorem csJ13_248 : xCS "java/lang/AbstractStringBuilder" 248 iJ23_getChars 3 := ⟨mJ23_getChars, by unfold xNp; decide +kernel, ⟨by decide, by decide⟩, q540, Or.inl q539⟩
theorem csJ13_251 : xCS "java/lang/AbstractStringBuilder" 251 iJ16_getChars 4 := ⟨mJ16_getChars, by unfold xNp; decide +kernel, ⟨by decide, by decide⟩, q547, Or.inl q546⟩
theorem csJ13_191 : xCS "java/lang/AbstractStringBuilder" 191 iJ21_canEncode 1 := ⟨mJ21_canEncode, by unfold xNp; decide +kernel, ⟨by decide, by decide⟩, q787, Or.inl q786⟩
theorem csJ13_386 : xCS "java/lang/AbstractStringBuilder" 386 iJ16_putCharsSB 5 := ⟨mJ16_putCharsSB, by unfold xNp; decide +kernel, ⟨by decide, by decide⟩, q790, Or.inl q789⟩
theorem csJ13_197 : xCS "java/lang/AbstractStringBuilder" 197 iJ16_putCharSB 3 := ⟨mJ16_putCharSB, by unfold xNp; decide +kernel, ⟨by decide, by decide⟩, q820, Or.inl q819⟩
theorem cvJ13_43_J14 : xCV "java/lang/AbstractStringBuilder" 43 "java/lang/StringBuilder" iJ14_append_9 1 := ⟨mJ14_append_9, q850, Or.inr ⟨⟨"java/lang/AbstractStringBuilder", "append", "(Ljava/lang/String;)Ljava/lang/AbstractStringBuilder;"⟩, "java/lang/AbstractStringBuilder", by unfold xNp; decide +kernel, ⟨by decide, by decide⟩, q849, q4229, q4242, Or.inr ⟨_, _, _, q414, q415⟩⟩⟩
theorem cvJ13_212_J14 : xCV "java/lang/AbstractStringBuilder" 212 "java/lang/StringBuilder" iJ13_append_7 1 := ⟨mJ13_append_7, q855, Or.inl ⟨by unfold xNp; decide +kernel, ⟨by decide, by decide⟩, q857, Or.inl q854⟩⟩
theorem cfJ13_47_J14 : xCF "java/lang/AbstractStringBuilder" 47 "java/lang/StringBuilder" iJ14_length 0 := ⟨mJ14_length, q576, ⟨"java/lang/CharSequence", "length", "()I"⟩, by unfold xNp; decide +kernel, ⟨by decide, by decide⟩, q876, List.mem_of_getElem? (i := 10) rfl, q884⟩
theorem cfJ13_47_J15 : xCF "java/lang/AbstractStringBuilder" 47 "java/lang/String" iJ15_length 0 := ⟨mJ15_length, q487, ⟨"java/lang/CharSequence", "length", "()I"⟩, by unfold xNp; decide +kernel, ⟨by decide, by decide⟩, q876, List.mem_of_getElem? (i := 5) rfl, q880⟩
theorem cvJ13_223_J14 : xCV "java/lang/AbstractStringBuilder" 223 "java/lang/StringBuilder" iJ14_append_10 3 := ⟨mJ14_append_10, q891, Or.inr ⟨⟨"java/lang/AbstractStringBuilder", "append", "(Ljava/lang/CharSequence;II)Ljava/lang/AbstractStringBuilder;"⟩, "java/lang/AbstractStringBuilder", by unfold xNp; decide +kernel, ⟨by decide, by decide⟩, q887, q889, q890, Or.inr ⟨_, _, _, q888, q898⟩⟩⟩
theorem cvJ13_160_J14 : xCV "java/lang/AbstractStringBuilder" 160 "java/lang/StringBuilder" iJ14_length 0 := ⟨mJ14_length, q576, Or.inr ⟨⟨"java/lang/AbstractStringBuilder", "length", "()I"⟩, "java/lang/AbstractStringBuilder", by unfold xNp; decide +kernel, ⟨by decide, by decide⟩, q859, q574, q575, Or.inr ⟨_, _, _, q573, q579⟩⟩⟩
theorem cvJ13_219_J14 : xCV "java/lang/AbstractStringBuilder" 219 "java/lang/StringBuilder" iJ13_getBytes 3 := ⟨mJ13_getBytes, q870, Or.inl ⟨by unfold xNp; decide +kernel, ⟨by decide, by decide⟩, q872, Or.inl q869⟩⟩
theorem fgJ13_73_14 : xFL "java/lang/AbstractStringBuilder" 73 14 2 := ⟨_, TJ14, 4, "java/lang/AbstractStringBuilder", rfl, by decide, in_J14, Or.inl rfl, Or.inl q395⟩
theorem fpJ13_73_14 : xFP "java/lang/AbstractStringBuilder" 73 14 2 .boolean := ⟨_, TJ14, 4, "java/lang/AbstractStringBuilder", tyJ14, ⟨rfl, in_J14, tyJ14_ok, nmJ14⟩, by decide, rfl, rfl, Or.inl rfl, Or.inl q395⟩
theorem cvJ13_70_J14 : xCV "java/lang/AbstractStringBuilder" 70 "java/lang/StringBuilder" iJ13_getCoder 0 := ⟨mJ13_getCoder, q865, Or.inl ⟨by unfold xNp; decide +kernel, ⟨by decide, by decide⟩, q867, Or.inl q864⟩⟩
theorem csJ13_161 : xCS "java/lang/AbstractStringBuilder" 161 iJ20_checkFromToIndex 4 := ⟨mJ20_checkFromToIndex, by unfold xNp; decide +kernel, ⟨by decide, by decide⟩, q475, Or.inl q902⟩
theorem cvJ13_400_J15 : xCV "java/lang/AbstractStringBuilder" 400 "java/lang/String" iJ15_isLatin1 0 := ⟨mJ15_isLatin1, q908, Or.inl ⟨by unfold xNp; decide +kernel, ⟨by decide, by decide⟩, q909, Or.inl q907⟩⟩
theorem cvJ13_401_J15 : xCV "java/lang/AbstractStringBuilder" 401 "java/lang/String" iJ15_value 0 := ⟨mJ15_value, q912, Or.inl ⟨by unfold xNp; decide +kernel, ⟨by decide, by decide⟩, q913, Or.inl q911⟩⟩
theorem cvJ13_404_J15 : xCV "java/lang/AbstractStringBuilder" 404 "java/lang/String" iJ15_charAt 1 := ⟨mJ15_charAt, q916, Or.inl ⟨by unfold xNp; decide +kernel, ⟨by decide, by decide⟩, q917, Or.inl q915⟩⟩
theorem csJ13_394 : xCS "java/lang/AbstractStringBuilder" 394 iJ16_putCharsSB_2 5 := ⟨mJ16_putCharsSB_2, by unfold xNp; decide +kernel, ⟨by decide, by decide⟩, q928, Or.inl q927⟩
theorem csJ13_138 : xCS "java/lang/AbstractStringBuilder" 138 iJ18_min 2 := ⟨mJ18_min, by unfold xNp; decide +kernel, ⟨by decide, by decide⟩, q450, Or.inl q945⟩
theorem csJ13_144 : xCS "java/lang/AbstractStringBuilder" 144 iJ15_checkIndex 2 := ⟨mJ15_checkIndex, by unfold xNp; decide +kernel, ⟨by decide, by decide⟩, q826, Or.inl q946⟩
theorem csJ13_148 : xCS "java/lang/AbstractStringBuilder" 148 iJ16_getChar 2 := ⟨mJ16_getChar, by unfold xNp; decide +kernel, ⟨by decide, by decide⟩, q629, Or.inl q947⟩
theorem cfJ13_390_J14 : xCF "java/lang/AbstractStringBuilder" 390 "java/lang/StringBuilder" iJ14_charAt 1 := ⟨mJ14_charAt, q939, ⟨"java/lang/CharSequence", "charAt", "(I)C"⟩, by unfold xNp; decide +kernel, ⟨by decide, by decide⟩, q953, List.mem_of_getElem? (i := 9) rfl, q937⟩
theorem cfJ13_390_J15 : xCF "java/lang/AbstractStringBuilder" 390 "java/lang/String" iJ15_charAt 1 := ⟨mJ15_charAt, q916, ⟨"java/lang/CharSequence", "charAt", "(I)C"⟩, by unfold xNp; decide +kernel, ⟨by decide, by decide⟩, q953, List.mem_of_getElem? (i := 4) rfl, q934⟩
theorem csJ13_87 : xCS "java/lang/AbstractStringBuilder" 87 iJ21_compareTo_2 4 := ⟨mJ21_compareTo_2, by unfold xNp; decide +kernel, ⟨by decide, by decide⟩, q1608, Or.inl q1751⟩
theorem csJ13_93 : xCS "java/lang/AbstractStringBuilder" 93 iJ16_compareTo_2 4 := ⟨mJ16_compareTo_2, by unfold xNp; decide +kernel, ⟨by decide, by decide⟩, q1753, Or.inl q1752⟩
theorem csJ13_94 : xCS "java/lang/AbstractStringBuilder" 94 iJ21_compareToUTF16_2 4 := ⟨mJ21_compareToUTF16_2, by unfold xNp; decide +kernel, ⟨by decide, by decide⟩, q1762, Or.inl q1761⟩
theorem csJ13_97 : xCS "java/lang/AbstractStringBuilder" 97 iJ16_compareToLatin1_2 4 := ⟨mJ16_compareToLatin1_2, by unfold xNp; decide +kernel, ⟨by decide, by decide⟩, q1766, Or.inl q1765⟩
theorem csJ13_133 : xCS "java/lang/AbstractStringBuilder" 133 iJ21_fillNull 3 := ⟨mJ21_fillNull, by unfold xNp; decide +kernel, ⟨by decide, by decide⟩, q3176, Or.inl q3175⟩
theorem csJ13_137 : xCS "java/lang/AbstractStringBuilder" 137 iJ16_fillNull 3 := ⟨mJ16_fillNull, by unfold xNp; decide +kernel, ⟨by decide, by decide⟩, q3198, Or.inl q3197⟩
theorem ciJ14_1 : xCI "java/lang/StringBuilder" 1 iJ13_init 1 := ⟨mJ13_init, rfl, q382, by unfold xNp; decide +kernel, ⟨by decide, by decide⟩, q381, Or.inl q380⟩
theorem cuJ14_29 : xCU "java/lang/StringBuilder" 29 iJ13_append 1 := ⟨mJ13_append, by decide, by unfold xNp; decide +kernel, q414, q413, q4229, q406⟩
theorem cuJ14_53 : xCU "java/lang/StringBuilder" 53 iJ13_append_2 1 := ⟨mJ13_append_2, by decide, by unfold xNp; decide +kernel, q534, q533, q4236, q406⟩
theorem nwJ14_18 : xNW "java/lang/StringBuilder" 18 15 4 [.null, .int 0, .int 0, .int 0] := ⟨_, TJ15, tyJ15, ⟨rfl, in_J15, tyJ15_ok, nmJ15⟩, q558, q559, q148, fun j hj => by
  rcases (by omega : j = 0 ∨ j = 1 ∨ j = 2 ∨ j = 3) with rfl | rfl | rfl | rfl <;> rfl⟩
theorem ciJ14_137 : xCI "java/lang/StringBuilder" 137 iJ15_init 1 := ⟨mJ15_init, rfl, q562, by unfold xNp; decide +kernel, ⟨by decide, by decide⟩, q561, Or.inl q560⟩
theorem cuJ14_343 : xCU "java/lang/StringBuilder" 343 iJ13_length 0 := ⟨mJ13_length, by decide, by unfold xNp; decide +kernel, q573, q578, q574, q406⟩
theorem cuJ14_59 : xCU "java/lang/StringBuilder" 59 iJ13_append_3 1 := ⟨mJ13_append_3, by decide, by unfold xNp; decide +kernel, q659, q658, q4237, q406⟩
theorem cuJ14_41 : xCU "java/lang/StringBuilder" 41 iJ13_append_4 1 := ⟨mJ13_append_4, by decide, by unfold xNp; decide +kernel, q780, q779, q4238, q406⟩
theorem cvJ14_284_J14 : xCV "java/lang/StringBuilder" 284 "java/lang/StringBuilder" iJ14_append_6 1 := ⟨mJ14_append_6, q813, Or.inl ⟨by unfold xNp; decide +kernel, ⟨by decide, by decide⟩, q814, Or.inl q812⟩⟩
theorem cuJ14_50 : xCU "java/lang/StringBuilder" 50 iJ13_append_5 1 := ⟨mJ13_append_5, by decide, by unfold xNp; decide +kernel, q817, q816, q4240, q406⟩
theorem cvJ14_299_J14 : xCV "java/lang/StringBuilder" 299 "java/lang/StringBuilder" iJ14_append_8 1 := ⟨mJ14_append_8, q842, Or.inl ⟨by unfold xNp; decide +kernel, ⟨by decide, by decide⟩, q843, Or.inl q841⟩⟩
theorem cuJ14_35 : xCU "java/lang/StringBuilder" 35 iJ13_append_6 1 := ⟨mJ13_append_6, by decide, by unfold xNp; decide +kernel, q846, q845, q4241, q406⟩
theorem cvJ14_23_J14 : xCV "java/lang/StringBuilder" 23 "java/lang/StringBuilder" iJ14_append 1 := ⟨mJ14_append, q410, Or.inl ⟨by unfold xNp; decide +kernel, ⟨by decide, by decide⟩, q411, Or.inl q852⟩⟩
theorem cvJ14_296_J14 : xCV "java/lang/StringBuilder" 296 "java/lang/StringBuilder" iJ14_append_11 3 := ⟨mJ14_append_11, q894, Or.inl ⟨by unfold xNp; decide +kernel, ⟨by decide, by decide⟩, q895, Or.inl q893⟩⟩
theorem cuJ14_38 : xCU "java/lang/StringBuilder" 38 iJ13_append_8 3 := ⟨mJ13_append_8, by decide, by unfold xNp; decide +kernel, q888, q897, q889, q406⟩
theorem cuJ14_329 : xCU "java/lang/StringBuilder" 329 iJ13_charAt 1 := ⟨mJ13_charAt, by decide, by unfold xNp; decide +kernel, q943, q942, q4245, q406⟩
theorem cvJ14_346_J14 : xCV "java/lang/StringBuilder" 346 "java/lang/StringBuilder" iJ14_compareTo_2 1 := ⟨mJ14_compareTo_2, q1745, Or.inl ⟨by unfold xNp; decide +kernel, ⟨by decide, by decide⟩, q1746, Or.inl q1744⟩⟩
theorem cuJ14_13 : xCU "java/lang/StringBuilder" 13 iJ13_compareTo 1 := ⟨mJ13_compareTo, by decide, by unfold xNp; decide +kernel, q1749, q1748, q4247, q406⟩
theorem cuJ14_333 : xCU "java/lang/StringBuilder" 333 iJ13_setLength 1 := ⟨mJ13_setLength, by decide, by unfold xNp; decide +kernel, q3154, q3153, q4253, q406⟩
theorem csJ15_1062 : xCS "java/lang/String" 1062 iJ20_checkFromToIndex 4 := ⟨mJ20_checkFromToIndex, by unfold xNp; decide +kernel, ⟨by decide, by decide⟩, q475, Or.inl q474⟩
theorem fgJ15_9_15 : xFL "java/lang/String" 9 15 0 := ⟨_, TJ15, 4, "java/lang/String", rfl, by decide, in_J15, Or.inl rfl, Or.inl q635⟩
theorem cvJ15_335_J15 : xCV "java/lang/String" 335 "java/lang/String" iJ15_coder 0 := ⟨mJ15_coder, q491, Or.inl ⟨by unfold xNp; decide +kernel, ⟨by decide, by decide⟩, q492, Or.inl q490⟩⟩
theorem fgJ15_15_15 : xFL "java/lang/String" 15 15 1 := ⟨_, TJ15, 4, "java/lang/String", rfl, by decide, in_J15, Or.inl rfl, Or.inl q636⟩
theorem csJ15_1065 : xCS "java/lang/String" 1065 iJ20_checkFromIndexSize 4 := ⟨mJ20_checkFromIndexSize, by unfold xNp; decide +kernel, ⟨by decide, by decide⟩, q521, Or.inl q520⟩
theorem csJ15_106 : xCS "java/lang/String" 106 iJ21_inflate 5 := ⟨mJ21_inflate, by unfold xNp; decide +kernel, ⟨by decide, by decide⟩, q509, Or.inl q528⟩
theorem ciJ15_489 : xCI "java/lang/String" 489 iJ15_init_2 2 := ⟨mJ15_init_2, rfl, q565, by unfold xNp; decide +kernel, ⟨by decide, by decide⟩, q564, Or.inl q563⟩
theorem cvJ15_552_J14 : xCV "java/lang/String" 552 "java/lang/StringBuilder" iJ13_getValue 0 := ⟨mJ13_getValue, q568, Or.inl ⟨by unfold xNp; decide +kernel, ⟨by decide, by decide⟩, q570, Or.inl q567⟩⟩
theorem cvJ15_549_J14 : xCV "java/lang/String" 549 "java/lang/StringBuilder" iJ14_length 0 := ⟨mJ14_length, q576, Or.inr ⟨⟨"java/lang/AbstractStringBuilder", "length", "()I"⟩, "java/lang/AbstractStringBuilder", by unfold xNp; decide +kernel, ⟨by decide, by decide⟩, q572, q574, q575, Or.inr ⟨_, _, _, q573, q579⟩⟩⟩
theorem cvJ15_1047_J14 : xCV "java/lang/String" 1047 "java/lang/StringBuilder" iJ13_isLatin1 0 := ⟨mJ13_isLatin1, q456, Or.inl ⟨by unfold xNp; decide +kernel, ⟨by decide, by decide⟩, q458, Or.inl q580⟩⟩
theorem fFJ15_15_15 : xFF "java/lang/String" 15 15 1 .byte := ⟨_, TJ15, 4, "java/lang/String", tyJ15, ⟨rfl, in_J15, tyJ15_ok, nmJ15⟩, by decide, rfl, rfl, rfl, Or.inl rfl, q636⟩
theorem csJ15_54 : xCS "java/lang/String" 54 iJ19_copyOfRange 3 := ⟨mJ19_copyOfRange, by unfold xNp; decide +kernel, ⟨by decide, by decide⟩, q582, Or.inl q581⟩
theorem fFJ15_9_15 : xFF "java/lang/String" 9 15 0 (.array .byte) := ⟨_, TJ15, 4, "java/lang/String", tyJ15, ⟨rfl, in_J15, tyJ15_ok, nmJ15⟩, by decide, rfl, rfl, rfl, Or.inl rfl, q635⟩
theorem fgJ15_1048_14 : xFL "java/lang/String" 1048 14 2 := ⟨_, TJ14, 4, "java/lang/AbstractStringBuilder", rfl, by decide, in_J14, Or.inl rfl, Or.inl q396⟩
theorem csJ15_1051 : xCS "java/lang/String" 1051 iJ16_compress 3 := ⟨mJ16_compress, by unfold xNp; decide +kernel, ⟨by decide, by decide⟩, q623, Or.inl q622⟩
theorem csJ15_47 : xCS "java/lang/String" 47 iJ16_coderFromArrayLen 2 := ⟨mJ16_coderFromArrayLen, by unfold xNp; decide +kernel, ⟨by decide, by decide⟩, q633, Or.inl q632⟩
theorem csJ15_1059 : xCS "java/lang/String" 1059 iJ20_checkIndex 3 := ⟨mJ20_checkIndex, by unfold xNp; decide +kernel, ⟨by decide, by decide⟩, q829, Or.inl q828⟩
theorem cvJ15_492_J15 : xCV "java/lang/String" 492 "java/lang/String" iJ15_isLatin1 0 := ⟨mJ15_isLatin1, q908, Or.inl ⟨by unfold xNp; decide +kernel, ⟨by decide, by decide⟩, q909, Or.inl q919⟩⟩
theorem csJ15_495 : xCS "java/lang/String" 495 iJ21_charAt 2 := ⟨mJ21_charAt, by unfold xNp; decide +kernel, ⟨by decide, by decide⟩, q921, Or.inl q920⟩
theorem csJ15_498 : xCS "java/lang/String" 498 iJ16_charAt 2 := ⟨mJ16_charAt, by unfold xNp; decide +kernel, ⟨by decide, by decide⟩, q925, Or.inl q924⟩
theorem cvJ15_1007_J14 : xCV "java/lang/String" 1007 "java/lang/StringBuilder" iJ14_toString 0 := ⟨mJ14_toString, q555, Or.inr ⟨⟨"java/lang/Object", "toString", "()Ljava/lang/String;"⟩, "java/lang/Object", by unfold xNp; decide +kernel, ⟨by decide, by decide⟩, q977, q979, q1090, Or.inl q976⟩⟩
theorem cvJ15_1007_J15 : xCV "java/lang/String" 1007 "java/lang/String" iJ15_toString 0 := ⟨mJ15_toString, q1088, Or.inr ⟨⟨"java/lang/Object", "toString", "()Ljava/lang/String;"⟩, "java/lang/Object", by unfold xNp; decide +kernel, ⟨by decide, by decide⟩, q977, q979, q1087, Or.inl q976⟩⟩
theorem cvJ15_1007_J23 : xCV "java/lang/String" 1007 "java/lang/Integer" iJ23_toString 0 := ⟨mJ23_toString, q1074, Or.inr ⟨⟨"java/lang/Object", "toString", "()Ljava/lang/String;"⟩, "java/lang/Object", by unfold xNp; decide +kernel, ⟨by decide, by decide⟩, q977, q979, q1073, Or.inl q976⟩⟩
theorem cvJ15_1007_X9 : xCV "java/lang/String" 1007 "FiddleRow$ParseError" iJ9_toString 0 := ⟨mJ9_toString, q986, Or.inr ⟨⟨"java/lang/Object", "toString", "()Ljava/lang/String;"⟩, "java/lang/Object", by unfold xNp; decide +kernel, ⟨by decide, by decide⟩, q977, q979, q985, Or.inl q976⟩⟩
theorem fgJ15_19_15 : xFL "java/lang/String" 19 15 2 := ⟨_, TJ15, 4, "java/lang/String", rfl, by decide, in_J15, Or.inl rfl, Or.inl q637⟩
theorem fgJ15_23_15 : xFL "java/lang/String" 23 15 3 := ⟨_, TJ15, 4, "java/lang/String", rfl, by decide, in_J15, Or.inl rfl, Or.inl q638⟩
theorem csJ15_628 : xCS "java/lang/String" 628 iJ21_hashCode 1 := ⟨mJ21_hashCode, by unfold xNp; decide +kernel, ⟨by decide, by decide⟩, q1399, Or.inl q1398⟩
theorem csJ15_632 : xCS "java/lang/String" 632 iJ16_hashCode 1 := ⟨mJ16_hashCode, by unfold xNp; decide +kernel, ⟨by decide, by decide⟩, q1448, Or.inl q1447⟩
theorem fpJ15_23_15 : xFP "java/lang/String" 23 15 3 .boolean := ⟨_, TJ15, 4, "java/lang/String", tyJ15, ⟨rfl, in_J15, tyJ15_ok, nmJ15⟩, by decide, rfl, rfl, Or.inl rfl, Or.inl q638⟩
theorem fpJ15_19_15 : xFP "java/lang/String" 19 15 2 .int := ⟨_, TJ15, 4, "java/lang/String", tyJ15, ⟨rfl, in_J15, tyJ15_ok, nmJ15⟩, by decide, rfl, rfl, Or.inl rfl, Or.inl q637⟩
theorem cvJ15_1084_J15 : xCV "java/lang/String" 1084 "java/lang/String" iJ15_compareTo_2 1 := ⟨mJ15_compareTo_2, q1601, Or.inl ⟨by unfold xNp; decide +kernel, ⟨by decide, by decide⟩, q1602, Or.inl q1600⟩⟩
theorem csJ15_586 : xCS "java/lang/String" 586 iJ21_compareTo 2 := ⟨mJ21_compareTo, by unfold xNp; decide +kernel, ⟨by decide, by decide⟩, q1605, Or.inl q1604⟩
theorem csJ15_590 : xCS "java/lang/String" 590 iJ16_compareTo 2 := ⟨mJ16_compareTo, by unfold xNp; decide +kernel, ⟨by decide, by decide⟩, q1716, Or.inl q1715⟩
theorem csJ15_591 : xCS "java/lang/String" 591 iJ21_compareToUTF16 2 := ⟨mJ21_compareToUTF16, by unfold xNp; decide +kernel, ⟨by decide, by decide⟩, q1723, Or.inl q1722⟩
theorem csJ15_594 : xCS "java/lang/String" 594 iJ16_compareToLatin1 2 := ⟨mJ16_compareToLatin1, by unfold xNp; decide +kernel, ⟨by decide, by decide⟩, q1734, Or.inl q1733⟩
theorem csJ15_541 : xCS "java/lang/String" 541 iJ21_equals 2 := ⟨mJ21_equals, by unfold xNp; decide +kernel, ⟨by decide, by decide⟩, q1831, Or.inl q1830⟩
theorem csJ16_11 : xCS "java/lang/StringUTF16" 11 iJ16_newBytesLength 1 := ⟨mJ16_newBytesLength, by unfold xNp; decide +kernel, ⟨by decide, by decide⟩, q390, Or.inl q389⟩
theorem csJ16_96 : xCS "java/lang/StringUTF16" 96 iJ16_checkBoundsBeginEnd 3 := ⟨mJ16_checkBoundsBeginEnd, by unfold xNp; decide +kernel, ⟨by decide, by decide⟩, q464, Or.inl q463⟩
theorem csJ16_111 : xCS "java/lang/StringUTF16" 111 iJ16_putChar 3 := ⟨mJ16_putChar, by unfold xNp; decide +kernel, ⟨by decide, by decide⟩, q478, Or.inl q477⟩
theorem csJ16_48 : xCS "java/lang/StringUTF16" 48 iJ16_length 1 := ⟨mJ16_length, by unfold xNp; decide +kernel, ⟨by decide, by decide⟩, q467, Or.inl q466⟩
theorem csJ16_241 : xCS "java/lang/StringUTF16" 241 iJ15_checkBoundsBeginEnd 3 := ⟨mJ15_checkBoundsBeginEnd, by unfold xNp; decide +kernel, ⟨by decide, by decide⟩, q470, Or.inl q469⟩
theorem csJ16_173 : xCS "java/lang/StringUTF16" 173 iJ16_checkBoundsOffCount 3 := ⟨mJ16_checkBoundsOffCount, by unfold xNp; decide +kernel, ⟨by decide, by decide⟩, q515, Or.inl q514⟩
theorem csJ16_419 : xCS "java/lang/StringUTF16" 419 iJ15_checkBoundsOffCount 3 := ⟨mJ15_checkBoundsOffCount, by unfold xNp; decide +kernel, ⟨by decide, by decide⟩, q518, Or.inl q517⟩
theorem csJ16_393 : xCS "java/lang/StringUTF16" 393 iJ16_getChars_2 3 := ⟨mJ16_getChars_2, by unfold xNp; decide +kernel, ⟨by decide, by decide⟩, q550, Or.inl q549⟩
theorem csJ16_123 : xCS "java/lang/StringUTF16" 123 iJ16_compress_2 5 := ⟨mJ16_compress_2, by unfold xNp; decide +kernel, ⟨by decide, by decide⟩, q626, Or.inl q625⟩
theorem csJ16_126 : xCS "java/lang/StringUTF16" 126 iJ19_copyOfRange 3 := ⟨mJ19_copyOfRange, by unfold xNp; decide +kernel, ⟨by decide, by decide⟩, q582, Or.inl q631⟩
theorem csJ16_71 : xCS "java/lang/StringUTF16" 71 iJ16_getChar 2 := ⟨mJ16_getChar, by unfold xNp; decide +kernel, ⟨by decide, by decide⟩, q629, Or.inl q628⟩
theorem csJ16_384 : xCS "java/lang/StringUTF16" 384 iJ16_putChars 5 := ⟨mJ16_putChars, by unfold xNp; decide +kernel, ⟨by decide, by decide⟩, q793, Or.inl q792⟩
theorem csJ16_67 : xCS "java/lang/StringUTF16" 67 iJ16_checkIndex 2 := ⟨mJ16_checkIndex, by unfold xNp; decide +kernel, ⟨by decide, by decide⟩, q823, Or.inl q822⟩
theorem csJ16_414 : xCS "java/lang/StringUTF16" 414 iJ15_checkIndex 2 := ⟨mJ15_checkIndex, by unfold xNp; decide +kernel, ⟨by decide, by decide⟩, q826, Or.inl q825⟩
theorem cfJ16_388_J14 : xCF "java/lang/StringUTF16" 388 "java/lang/StringBuilder" iJ14_charAt 1 := ⟨mJ14_charAt, q939, ⟨"java/lang/CharSequence", "charAt", "(I)C"⟩, by unfold xNp; decide +kernel, ⟨by decide, by decide⟩, q931, List.mem_of_getElem? (i := 9) rfl, q937⟩
theorem cfJ16_388_J15 : xCF "java/lang/StringUTF16" 388 "java/lang/String" iJ15_charAt 1 := ⟨mJ15_charAt, q916, ⟨"java/lang/CharSequence", "charAt", "(I)C"⟩, by unfold xNp; decide +kernel, ⟨by decide, by decide⟩, q931, List.mem_of_getElem? (i := 4) rfl, q934⟩
theorem csJ16_220 : xCS "java/lang/StringUTF16" 220 iJ17_vectorizedHashCode 5 := ⟨mJ17_vectorizedHashCode, by unfold xNp; decide +kernel, ⟨by decide, by decide⟩, q1402, Or.inl q1450⟩
theorem csJ16_176 : xCS "java/lang/StringUTF16" 176 iJ16_compareValues 4 := ⟨mJ16_compareValues, by unfold xNp; decide +kernel, ⟨by decide, by decide⟩, q1719, Or.inl q1718⟩
theorem csJ16_183 : xCS "java/lang/StringUTF16" 183 iJ18_min 2 := ⟨mJ18_min, by unfold xNp; decide +kernel, ⟨by decide, by decide⟩, q450, Or.inl q1721⟩
theorem csJ16_189 : xCS "java/lang/StringUTF16" 189 iJ21_compareToUTF16 2 := ⟨mJ21_compareToUTF16, by unfold xNp; decide +kernel, ⟨by decide, by decide⟩, q1723, Or.inl q1736⟩
theorem csJ16_180 : xCS "java/lang/StringUTF16" 180 iJ16_checkOffset 2 := ⟨mJ16_checkOffset, by unfold xNp; decide +kernel, ⟨by decide, by decide⟩, q1756, Or.inl q1755⟩
theorem csJ16_417 : xCS "java/lang/StringUTF16" 417 iJ15_checkOffset 2 := ⟨mJ15_checkOffset, by unfold xNp; decide +kernel, ⟨by decide, by decide⟩, q1759, Or.inl q1758⟩
theorem csJ16_193 : xCS "java/lang/StringUTF16" 193 iJ21_compareToUTF16_2 4 := ⟨mJ21_compareToUTF16_2, by unfold xNp; decide +kernel, ⟨by decide, by decide⟩, q1762, Or.inl q1768⟩
theorem csJ16_380 : xCS "java/lang/StringUTF16" 380 iJ19_fill 4 := ⟨mJ19_fill, by unfold xNp; decide +kernel, ⟨by decide, by decide⟩, q3179, Or.inl q3200⟩
theorem csJ17_194 : xCS "jdk/internal/util/ArraysSupport" 194 iJ18_max 2 := ⟨mJ18_max, by unfold xNp; decide +kernel, ⟨by decide, by decide⟩, q432, Or.inl q431⟩
theorem csJ17_201 : xCS "jdk/internal/util/ArraysSupport" 201 iJ17_hugeLength 2 := ⟨mJ17_hugeLength, by unfold xNp; decide +kernel, ⟨by decide, by decide⟩, q436, Or.inl q435⟩
theorem nwJ17_89 : xNW "jdk/internal/util/ArraysSupport" 89 14 4 [.null, .int 0, .int 0, .int 0] := ⟨_, TJ14, tyJ14, ⟨rfl, in_J14, tyJ14_ok, nmJ14⟩, q1440, q376, q147, fun j hj => by
  rcases (by omega : j = 0 ∨ j = 1 ∨ j = 2 ∨ j = 3) with rfl | rfl | rfl | rfl <;> rfl⟩
theorem ciJ17_91 : xCI "jdk/internal/util/ArraysSupport" 91 iJ14_init 0 := ⟨mJ14_init, rfl, q379, by unfold xNp; decide +kernel, ⟨by decide, by decide⟩, q378, Or.inl q1441⟩
theorem cvJ17_94_J14 : xCV "jdk/internal/util/ArraysSupport" 94 "java/lang/StringBuilder" iJ14_append 1 := ⟨mJ14_append, q410, Or.inl ⟨by unfold xNp; decide +kernel, ⟨by decide, by decide⟩, q411, Or.inl q1443⟩⟩
theorem cvJ17_98_J14 : xCV "jdk/internal/util/ArraysSupport" 98 "java/lang/StringBuilder" iJ14_append_2 1 := ⟨mJ14_append_2, q530, Or.inl ⟨by unfold xNp; decide +kernel, ⟨by decide, by decide⟩, q531, Or.inl q1444⟩⟩
theorem cvJ17_101_J14 : xCV "jdk/internal/util/ArraysSupport" 101 "java/lang/StringBuilder" iJ14_toString 0 := ⟨mJ14_toString, q555, Or.inl ⟨by unfold xNp; decide +kernel, ⟨by decide, by decide⟩, q556, Or.inl q1445⟩⟩
theorem csJ17_62 : xCS "jdk/internal/util/ArraysSupport" 62 iJ17_signedHashCode 4 := ⟨mJ17_signedHashCode, by unfold xNp; decide +kernel, ⟨by decide, by decide⟩, q1406, Or.inl q1405⟩
theorem csJ17_66 : xCS "jdk/internal/util/ArraysSupport" 66 iJ17_utf16hashCode 4 := ⟨mJ17_utf16hashCode, by unfold xNp; decide +kernel, ⟨by decide, by decide⟩, q1409, Or.inl q1408⟩
theorem csJ17_71 : xCS "jdk/internal/util/ArraysSupport" 71 iJ17_hashCode 4 := ⟨mJ17_hashCode, by unfold xNp; decide +kernel, ⟨by decide, by decide⟩, q1426, Or.inl q1425⟩
theorem csJ17_75 : xCS "jdk/internal/util/ArraysSupport" 75 iJ17_hashCode_2 4 := ⟨mJ17_hashCode_2, by unfold xNp; decide +kernel, ⟨by decide, by decide⟩, q1429, Or.inl q1428⟩
theorem csJ17_79 : xCS "jdk/internal/util/ArraysSupport" 79 iJ17_hashCode_3 4 := ⟨mJ17_hashCode_3, by unfold xNp; decide +kernel, ⟨by decide, by decide⟩, q1433, Or.inl q1432⟩
theorem csJ17_84 : xCS "jdk/internal/util/ArraysSupport" 84 iJ17_hashCode_4 4 := ⟨mJ17_hashCode_4, by unfold xNp; decide +kernel, ⟨by decide, by decide⟩, q1437, Or.inl q1436⟩
theorem ciJ17_105 : xCI "jdk/internal/util/ArraysSupport" 105 iJ12_init 1 := ⟨mJ12_init, rfl, q599, by unfold xNp; decide +kernel, ⟨by decide, by decide⟩, q598, Or.inl q1446⟩
theorem csJ17_122 : xCS "jdk/internal/util/ArraysSupport" 122 iJ17_vectorizedMismatch 6 := ⟨mJ17_vectorizedMismatch, by unfold xNp; decide +kernel, ⟨by decide, by decide⟩, q1619, Or.inl q1618⟩
theorem csJ17_58 : xCS "jdk/internal/util/ArraysSupport" 58 iJ23_numberOfLeadingZeros 1 := ⟨mJ23_numberOfLeadingZeros, by unfold xNp; decide +kernel, ⟨by decide, by decide⟩, q699, Or.inl q1710⟩
theorem csJ17_11 : xCS "jdk/internal/util/ArraysSupport" 11 iJ23_numberOfTrailingZeros 1 := ⟨mJ23_numberOfTrailingZeros, by unfold xNp; decide +kernel, ⟨by decide, by decide⟩, q1689, Or.inl q1711⟩
theorem csJ19_304 : xCS "java/util/Arrays" 304 iJ18_min 2 := ⟨mJ18_min, by unfold xNp; decide +kernel, ⟨by decide, by decide⟩, q450, Or.inl q449⟩
theorem csJ19_339 : xCS "java/util/Arrays" 339 iJ19_copyOfRangeByte 3 := ⟨mJ19_copyOfRangeByte, by unfold xNp; decide +kernel, ⟨by decide, by decide⟩, q585, Or.inl q584⟩
theorem csJ19_343 : xCS "java/util/Arrays" 343 iJ19_checkLength 2 := ⟨mJ19_checkLength, by unfold xNp; decide +kernel, ⟨by decide, by decide⟩, q588, Or.inl q587⟩
theorem nwJ19_45 : xNW "java/util/Arrays" 45 14 4 [.null, .int 0, .int 0, .int 0] := ⟨_, TJ14, tyJ14, ⟨rfl, in_J14, tyJ14_ok, nmJ14⟩, q591, q376, q147, fun j hj => by
  rcases (by omega : j = 0 ∨ j = 1 ∨ j = 2 ∨ j = 3) with rfl | rfl | rfl | rfl <;> rfl⟩
theorem ciJ19_47 : xCI "java/util/Arrays" 47 iJ14_init 0 := ⟨mJ14_init, rfl, q379, by unfold xNp; decide +kernel, ⟨by decide, by decide⟩, q378, Or.inl q592⟩
theorem cvJ19_54_J14 : xCV "java/util/Arrays" 54 "java/lang/StringBuilder" iJ14_append_2 1 := ⟨mJ14_append_2, q530, Or.inl ⟨by unfold xNp; decide +kernel, ⟨by decide, by decide⟩, q531, Or.inl q593⟩⟩
theorem cvJ19_50_J14 : xCV "java/util/Arrays" 50 "java/lang/StringBuilder" iJ14_append 1 := ⟨mJ14_append, q410, Or.inl ⟨by unfold xNp; decide +kernel, ⟨by decide, by decide⟩, q411, Or.inl q595⟩⟩
theorem cvJ19_61_J14 : xCV "java/util/Arrays" 61 "java/lang/StringBuilder" iJ14_toString 0 := ⟨mJ14_toString, q555, Or.inl ⟨by unfold xNp; decide +kernel, ⟨by decide, by decide⟩, q556, Or.inl q596⟩⟩
theorem ciJ19_65 : xCI "java/util/Arrays" 65 iJ12_init 1 := ⟨mJ12_init, rfl, q599, by unfold xNp; decide +kernel, ⟨by decide, by decide⟩, q598, Or.inl q597⟩
theorem csJ19_300 : xCS "java/util/Arrays" 300 iJ19_copyOf_3 3 := ⟨mJ19_copyOf_3, by unfold xNp; decide +kernel, ⟨by decide, by decide⟩, q1307, Or.inl q1306⟩
theorem csJ19_13 : xCS "java/util/Arrays" 13 iJ19_rangeCheck 3 := ⟨mJ19_rangeCheck, by unfold xNp; decide +kernel, ⟨by decide, by decide⟩, q3182, Or.inl q3181⟩
theorem csJ21_240 : xCS "java/lang/StringLatin1" 240 iJ16_inflate 5 := ⟨mJ16_inflate, by unfold xNp; decide +kernel, ⟨by decide, by decide⟩, q512, Or.inl q511⟩
theorem csJ21_9 : xCS "java/lang/StringLatin1" 9 iJ15_checkIndex 2 := ⟨mJ15_checkIndex, by unfold xNp; decide +kernel, ⟨by decide, by decide⟩, q826, Or.inl q923⟩
theorem csJ21_84 : xCS "java/lang/StringLatin1" 84 iJ17_vectorizedHashCode 5 := ⟨mJ17_vectorizedHashCode, by unfold xNp; decide +kernel, ⟨by decide, by decide⟩, q1402, Or.inl q1401⟩
theorem csJ21_34 : xCS "java/lang/StringLatin1" 34 iJ21_compareTo_2 4 := ⟨mJ21_compareTo_2, by unfold xNp; decide +kernel, ⟨by decide, by decide⟩, q1608, Or.inl q1607⟩
theorem csJ21_38 : xCS "java/lang/StringLatin1" 38 iJ18_min 2 := ⟨mJ18_min, by unfold xNp; decide +kernel, ⟨by decide, by decide⟩, q450, Or.inl q1610⟩
theorem csJ21_44 : xCS "java/lang/StringLatin1" 44 iJ17_mismatch 3 := ⟨mJ17_mismatch, by unfold xNp; decide +kernel, ⟨by decide, by decide⟩, q1612, Or.inl q1611⟩
theorem csJ21_50 : xCS "java/lang/StringLatin1" 50 iJ21_getChar 2 := ⟨mJ21_getChar, by unfold xNp; decide +kernel, ⟨by decide, by decide⟩, q1713, Or.inl q1712⟩
theorem csJ21_54 : xCS "java/lang/StringLatin1" 54 iJ21_length 1 := ⟨mJ21_length, by unfold xNp; decide +kernel, ⟨by decide, by decide⟩, q1726, Or.inl q1725⟩
theorem csJ21_58 : xCS "java/lang/StringLatin1" 58 iJ16_length 1 := ⟨mJ16_length, by unfold xNp; decide +kernel, ⟨by decide, by decide⟩, q467, Or.inl q1728⟩
theorem csJ21_59 : xCS "java/lang/StringLatin1" 59 iJ21_compareToUTF16Values 4 := ⟨mJ21_compareToUTF16Values, by unfold xNp; decide +kernel, ⟨by decide, by decide⟩, q1730, Or.inl q1729⟩
theorem csJ21_65 : xCS "java/lang/StringLatin1" 65 iJ16_getChar 2 := ⟨mJ16_getChar, by unfold xNp; decide +kernel, ⟨by decide, by decide⟩, q629, Or.inl q1732⟩
theorem csJ21_62 : xCS "java/lang/StringLatin1" 62 iJ15_checkOffset 2 := ⟨mJ15_checkOffset, by unfold xNp; decide +kernel, ⟨by decide, by decide⟩, q1759, Or.inl q1764⟩
theorem csJ21_236 : xCS "java/lang/StringLatin1" 236 iJ19_fill 4 := ⟨mJ19_fill, by unfold xNp; decide +kernel, ⟨by decide, by decide⟩, q3179, Or.inl q3178⟩
theorem fgJ23_205_16 : xFL "java/lang/Integer" 205 16 0 := ⟨_, TJ23, 1, "java/lang/Integer", rfl, by decide, in_J23, Or.inl rfl, Or.inl q2955⟩
theorem csJ23_9 : xCS "java/lang/Integer" 9 iJ23_toString_2 1 := ⟨mJ23_toString_2, by unfold xNp; decide +kernel, ⟨by decide, by decide⟩, q1077, Or.inl q1076⟩
theorem csJ23_72 : xCS "java/lang/Integer" 72 iJ23_stringSize 1 := ⟨mJ23_stringSize, by unfold xNp; decide +kernel, ⟨by decide, by decide⟩, q537, Or.inl q1079⟩
theorem csJ23_75 : xCS "java/lang/Integer" 75 iJ23_getChars 3 := ⟨mJ23_getChars, by unfold xNp; decide +kernel, ⟨by decide, by decide⟩, q540, Or.inl q1081⟩
theorem nwJ23_5 : xNW "java/lang/Integer" 5 15 4 [.null, .int 0, .int 0, .int 0] := ⟨_, TJ15, tyJ15, ⟨rfl, in_J15, tyJ15_ok, nmJ15⟩, q1082, q559, q148, fun j hj => by
  rcases (by omega : j = 0 ∨ j = 1 ∨ j = 2 ∨ j = 3) with rfl | rfl | rfl | rfl <;> rfl⟩
theorem ciJ23_65 : xCI "java/lang/Integer" 65 iJ15_init_3 2 := ⟨mJ15_init_3, rfl, q1085, by unfold xNp; decide +kernel, ⟨by decide, by decide⟩, q1084, Or.inl q1083⟩
theorem csJ23_79 : xCS "java/lang/Integer" 79 iJ16_getChars_2 3 := ⟨mJ16_getChars_2, by unfold xNp; decide +kernel, ⟨by decide, by decide⟩, q550, Or.inl q1086⟩
theorem csJ23_208 : xCS "java/lang/Integer" 208 iJ23_hashCode_2 1 := ⟨mJ23_hashCode_2, by unfold xNp; decide +kernel, ⟨by decide, by decide⟩, q1393, Or.inl q1392⟩
theorem cvJ23_284_J23 : xCV "java/lang/Integer" 284 "java/lang/Integer" iJ23_compareTo_2 1 := ⟨mJ23_compareTo_2, q1587, Or.inl ⟨by unfold xNp; decide +kernel, ⟨by decide, by decide⟩, q1588, Or.inl q1586⟩⟩
theorem csJ23_259 : xCS "java/lang/Integer" 259 iJ23_compare 2 := ⟨mJ23_compare, by unfold xNp; decide +kernel, ⟨by decide, by decide⟩, q1591, Or.inl q1590⟩
theorem cvJ23_211_J23 : xCV "java/lang/Integer" 211 "java/lang/Integer" iJ23_intValue 0 := ⟨mJ23_intValue, q1824, Or.inl ⟨by unfold xNp; decide +kernel, ⟨by decide, by decide⟩, q1825, Or.inl q1823⟩⟩
theorem nwJ23_1 : xNW "java/lang/Integer" 1 16 1 [.int 0] := ⟨_, TJ23, tyJ23, ⟨rfl, in_J23, tyJ23_ok, nmJ23⟩, q1585, q2947, q157, fun j hj => by
  rcases (by omega : j = 0) with rfl <;> rfl⟩
theorem ciJ23_199 : xCI "java/lang/Integer" 199 iJ23_init 1 := ⟨mJ23_init, rfl, q2950, by unfold xNp; decide +kernel, ⟨by decide, by decide⟩, q2949, Or.inl q2948⟩
theorem ciJ23_202 : xCI "java/lang/Integer" 202 iJ22_init 0 := ⟨mJ22_init, rfl, q2953, by unfold xNp; decide +kernel, ⟨by decide, by decide⟩, q2952, Or.inl q2951⟩
theorem fFJ23_205_16 : xFF "java/lang/Integer" 205 16 0 .int := ⟨_, TJ23, 1, "java/lang/Integer", tyJ23, ⟨rfl, in_J23, tyJ23_ok, nmJ23⟩, by decide, rfl, rfl, rfl, Or.inl rfl, q2955⟩
theorem cvJ30_37_J14 : xCV "java/util/Objects" 37 "java/lang/StringBuilder" iJ14_toString 0 := ⟨mJ14_toString, q555, Or.inr ⟨⟨"java/lang/Object", "toString", "()Ljava/lang/String;"⟩, "java/lang/Object", by unfold xNp; decide +kernel, ⟨by decide, by decide⟩, q1126, q979, q1090, Or.inl q976⟩⟩
theorem cvJ30_37_J15 : xCV "java/util/Objects" 37 "java/lang/String" iJ15_toString 0 := ⟨mJ15_toString, q1088, Or.inr ⟨⟨"java/lang/Object", "toString", "()Ljava/lang/String;"⟩, "java/lang/Object", by unfold xNp; decide +kernel, ⟨by decide, by decide⟩, q1126, q979, q1087, Or.inl q976⟩⟩
theorem cvJ30_37_J23 : xCV "java/util/Objects" 37 "java/lang/Integer" iJ23_toString 0 := ⟨mJ23_toString, q1074, Or.inr ⟨⟨"java/lang/Object", "toString", "()Ljava/lang/String;"⟩, "java/lang/Object", by unfold xNp; decide +kernel, ⟨by decide, by decide⟩, q1126, q979, q1073, Or.inl q976⟩⟩
theorem cvJ30_37_X9 : xCV "java/util/Objects" 37 "FiddleRow$ParseError" iJ9_toString 0 := ⟨mJ9_toString, q986, Or.inr ⟨⟨"java/lang/Object", "toString", "()Ljava/lang/String;"⟩, "java/lang/Object", by unfold xNp; decide +kernel, ⟨by decide, by decide⟩, q1126, q979, q985, Or.inl q976⟩⟩
theorem csJ30_105 : xCS "java/util/Objects" 105 iJ20_checkIndex 3 := ⟨mJ20_checkIndex, by unfold xNp; decide +kernel, ⟨by decide, by decide⟩, q829, Or.inl q2141⟩
theorem ciJ47_7 : xCI "java/lang/IndexOutOfBoundsException" 7 iJ11_init 1 := ⟨mJ11_init, rfl, q602, by unfold xNp; decide +kernel, ⟨by decide, by decide⟩, q601, Or.inl q2611⟩
theorem ciJ47_1 : xCI "java/lang/IndexOutOfBoundsException" 1 iJ11_init_3 0 := ⟨mJ11_init_3, rfl, q2737, by unfold xNp; decide +kernel, ⟨by decide, by decide⟩, q2736, Or.inl q2735⟩
theorem ciJ12_7 : xCI "java/lang/IllegalArgumentException" 7 iJ11_init 1 := ⟨mJ11_init, rfl, q602, by unfold xNp; decide +kernel, ⟨by decide, by decide⟩, q601, Or.inl q600⟩
theorem ciJ12_10 : xCI "java/lang/IllegalArgumentException" 10 iJ11_init_2 2 := ⟨mJ11_init_2, rfl, q1132, by unfold xNp; decide +kernel, ⟨by decide, by decide⟩, q1131, Or.inl q1146⟩
theorem ciJ12_1 : xCI "java/lang/IllegalArgumentException" 1 iJ11_init_3 0 := ⟨mJ11_init_3, rfl, q2737, by unfold xNp; decide +kernel, ⟨by decide, by decide⟩, q2736, Or.inl q2751⟩
theorem ciJ29_10 : xCI "java/lang/IllegalStateException" 10 iJ11_init_2 2 := ⟨mJ11_init_2, rfl, q1132, by unfold xNp; decide +kernel, ⟨by decide, by decide⟩, q1131, Or.inl q1130⟩
theorem ciJ29_1 : xCI "java/lang/IllegalStateException" 1 iJ11_init_3 0 := ⟨mJ11_init_3, rfl, q2737, by unfold xNp; decide +kernel, ⟨by decide, by decide⟩, q2736, Or.inl q2759⟩
theorem ciJ29_7 : xCI "java/lang/IllegalStateException" 7 iJ11_init 1 := ⟨mJ11_init, rfl, q602, by unfold xNp; decide +kernel, ⟨by decide, by decide⟩, q601, Or.inl q2865⟩
theorem fpJ9_7_8 : xFP "java/lang/Throwable" 7 8 0 (.object "java/lang/Throwable") := ⟨_, TX9, 8, "java/lang/Throwable", tyX9, ⟨rfl, in_X9, tyX9_ok, nmX9⟩, by decide, rfl, rfl, Or.inl rfl, Or.inl q611⟩
theorem fpJ9_17_8 : xFP "java/lang/Throwable" 17 8 1 (.array (.object "java/lang/StackTraceElement")) := ⟨_, TX9, 8, "java/lang/Throwable", tyX9, ⟨rfl, in_X9, tyX9_ok, nmX9⟩, by decide, rfl, rfl, Or.inl rfl, Or.inl q612⟩
theorem fpJ9_24_8 : xFP "java/lang/Throwable" 24 8 2 (.object "java/util/List") := ⟨_, TX9, 8, "java/lang/Throwable", tyX9, ⟨rfl, in_X9, tyX9_ok, nmX9⟩, by decide, rfl, rfl, Or.inl rfl, Or.inl q613⟩
theorem fpJ9_31_8 : xFP "java/lang/Throwable" 31 8 3 (.object "java/lang/String") := ⟨_, TX9, 8, "java/lang/Throwable", tyX9, ⟨rfl, in_X9, tyX9_ok, nmX9⟩, by decide, rfl, rfl, Or.inl rfl, Or.inl q610⟩
theorem cvJ9_78_X9 : xCV "java/lang/Throwable" 78 "FiddleRow$ParseError" iJ9_getLocalizedMessage 0 := ⟨mJ9_getLocalizedMessage, q1034, Or.inl ⟨by unfold xNp; decide +kernel, ⟨by decide, by decide⟩, q1036, Or.inl q1033⟩⟩
theorem nwJ9_44 : xNW "java/lang/Throwable" 44 14 4 [.null, .int 0, .int 0, .int 0] := ⟨_, TJ14, tyJ14, ⟨rfl, in_J14, tyJ14_ok, nmJ14⟩, q1055, q376, q147, fun j hj => by
  rcases (by omega : j = 0 ∨ j = 1 ∨ j = 2 ∨ j = 3) with rfl | rfl | rfl | rfl <;> rfl⟩
theorem ciJ9_46 : xCI "java/lang/Throwable" 46 iJ14_init 0 := ⟨mJ14_init, rfl, q379, by unfold xNp; decide +kernel, ⟨by decide, by decide⟩, q378, Or.inl q1056⟩
theorem cvJ9_49_J14 : xCV "java/lang/Throwable" 49 "java/lang/StringBuilder" iJ14_append 1 := ⟨mJ14_append, q410, Or.inl ⟨by unfold xNp; decide +kernel, ⟨by decide, by decide⟩, q411, Or.inl q1057⟩⟩
theorem cvJ9_60_J14 : xCV "java/lang/Throwable" 60 "java/lang/StringBuilder" iJ14_toString 0 := ⟨mJ14_toString, q555, Or.inl ⟨by unfold xNp; decide +kernel, ⟨by decide, by decide⟩, q556, Or.inl q1059⟩⟩
theorem cvJ9_39_X9 : xCV "java/lang/Throwable" 39 "FiddleRow$ParseError" iJ9_getMessage 0 := ⟨mJ9_getMessage, q1045, Or.inl ⟨by unfold xNp; decide +kernel, ⟨by decide, by decide⟩, q1047, Or.inl q1044⟩⟩
theorem fgJ9_31_8 : xFL "java/lang/Throwable" 31 8 3 := ⟨_, TX9, 8, "java/lang/Throwable", rfl, by decide, in_X9, Or.inl rfl, Or.inl q610⟩
theorem ciJ10_7 : xCI "java/lang/Exception" 7 iJ9_init_2 1 := ⟨mJ9_init_2, rfl, q608, by unfold xNp; decide +kernel, ⟨by decide, by decide⟩, q607, Or.inl q606⟩
theorem ciJ10_10 : xCI "java/lang/Exception" 10 iJ9_init_3 2 := ⟨mJ9_init_3, rfl, q1138, by unfold xNp; decide +kernel, ⟨by decide, by decide⟩, q1137, Or.inl q1136⟩
theorem ciJ10_16 : xCI "java/lang/Exception" 16 iJ9_init_4 4 := ⟨mJ9_init_4, rfl, q2094, by unfold xNp; decide +kernel, ⟨by decide, by decide⟩, q2093, Or.inl q2092⟩
theorem ciJ10_1 : xCI "java/lang/Exception" 1 iJ9_init 0 := ⟨mJ9_init, rfl, q354, by unfold xNp; decide +kernel, ⟨by decide, by decide⟩, q353, Or.inl q2741⟩
theorem ciJ11_7 : xCI "java/lang/RuntimeException" 7 iJ10_init 1 := ⟨mJ10_init, rfl, q605, by unfold xNp; decide +kernel, ⟨by decide, by decide⟩, q604, Or.inl q603⟩
theorem ciJ11_10 : xCI "java/lang/RuntimeException" 10 iJ10_init_2 2 := ⟨mJ10_init_2, rfl, q1135, by unfold xNp; decide +kernel, ⟨by decide, by decide⟩, q1134, Or.inl q1133⟩
theorem ciJ11_1 : xCI "java/lang/RuntimeException" 1 iJ10_init_4 0 := ⟨mJ10_init_4, rfl, q2740, by unfold xNp; decide +kernel, ⟨by decide, by decide⟩, q2739, Or.inl q2738⟩
