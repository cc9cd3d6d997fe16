/-! sites: field links, calls, new (printed by gen/sites.py) -/
set_option maxRecDepth 100000
theorem cl_ok_0 : CLok 0 := ⟨_, _, _, rfl, in_X0, ⟨tyX0, tyX0_ok⟩, nmX0⟩
theorem ft_0_0 : FTok 0 0 true (.array .int) := ⟨_, _, _, rfl, by decide, rfl, tyX0_ok 0 (by decide)⟩
theorem dc_0_0 : DCok 0 0 RX0 := ⟨_, _, _, rfl, rfl⟩
theorem ft_0_1 : FTok 0 1 true (.object "PrayerMatsFace$Quarter") := ⟨_, _, _, rfl, by decide, rfl, tyX0_ok 1 (by decide)⟩
theorem dc_0_1 : DCok 0 1 RX0 := ⟨_, _, _, rfl, rfl⟩
theorem ft_0_2 : FTok 0 2 true (.object "PrayerMatsFace$Quarter") := ⟨_, _, _, rfl, by decide, rfl, tyX0_ok 2 (by decide)⟩
theorem dc_0_2 : DCok 0 2 RX0 := ⟨_, _, _, rfl, rfl⟩
theorem ft_0_3 : FTok 0 3 true (.object "PrayerMatsFace$Quarter") := ⟨_, _, _, rfl, by decide, rfl, tyX0_ok 3 (by decide)⟩
theorem dc_0_3 : DCok 0 3 RX0 := ⟨_, _, _, rfl, rfl⟩
theorem ft_0_4 : FTok 0 4 true (.object "PrayerMatsFace$Quarter") := ⟨_, _, _, rfl, by decide, rfl, tyX0_ok 4 (by decide)⟩
theorem dc_0_4 : DCok 0 4 RX0 := ⟨_, _, _, rfl, rfl⟩
theorem ft_0_5 : FTok 0 5 false .boolean := ⟨_, _, _, rfl, by decide, rfl, tyX0_ok 5 (by decide)⟩
theorem ft_0_6 : FTok 0 6 true (.array .int) := ⟨_, _, _, rfl, by decide, rfl, tyX0_ok 6 (by decide)⟩
theorem dc_0_6 : DCok 0 6 RX0 := ⟨_, _, _, rfl, rfl⟩
theorem ft_0_7 : FTok 0 7 false .int := ⟨_, _, _, rfl, by decide, rfl, tyX0_ok 7 (by decide)⟩
theorem ft_0_8 : FTok 0 8 true (.array (.object "PrayerMatsFace$Quarter")) := ⟨_, _, _, rfl, by decide, rfl, tyX0_ok 8 (by decide)⟩
theorem dc_0_8 : DCok 0 8 RX0 := ⟨_, _, _, rfl, rfl⟩
theorem ft_0_9 : FTok 0 9 false .int := ⟨_, _, _, rfl, by decide, rfl, tyX0_ok 9 (by decide)⟩
theorem ft_0_10 : FTok 0 10 true (.array .int) := ⟨_, _, _, rfl, by decide, rfl, tyX0_ok 10 (by decide)⟩
theorem dc_0_10 : DCok 0 10 RX0 := ⟨_, _, _, rfl, rfl⟩
theorem ft_0_11 : FTok 0 11 false .int := ⟨_, _, _, rfl, by decide, rfl, tyX0_ok 11 (by decide)⟩
theorem ft_0_12 : FTok 0 12 false .int := ⟨_, _, _, rfl, by decide, rfl, tyX0_ok 12 (by decide)⟩
theorem ft_0_13 : FTok 0 13 false .int := ⟨_, _, _, rfl, by decide, rfl, tyX0_ok 13 (by decide)⟩
theorem ft_0_14 : FTok 0 14 true (.array .int) := ⟨_, _, _, rfl, by decide, rfl, tyX0_ok 14 (by decide)⟩
theorem dc_0_14 : DCok 0 14 RX0 := ⟨_, _, _, rfl, rfl⟩
theorem ft_0_15 : FTok 0 15 false .int := ⟨_, _, _, rfl, by decide, rfl, tyX0_ok 15 (by decide)⟩
theorem ft_0_16 : FTok 0 16 false .int := ⟨_, _, _, rfl, by decide, rfl, tyX0_ok 16 (by decide)⟩
theorem cl_ok_1 : CLok 1 := ⟨_, _, _, rfl, in_X1, ⟨tyX1, tyX1_ok⟩, nmX1⟩
theorem ft_1_0 : FTok 1 0 true (.object "java/util/ArrayList") := ⟨_, _, _, rfl, by decide, rfl, tyX1_ok 0 (by decide)⟩
theorem dc_1_0 : DCok 1 0 RX1 := ⟨_, _, _, rfl, rfl⟩
theorem ft_1_1 : FTok 1 1 true (.array .int) := ⟨_, _, _, rfl, by decide, rfl, tyX1_ok 1 (by decide)⟩
theorem dc_1_1 : DCok 1 1 RX1 := ⟨_, _, _, rfl, rfl⟩
theorem ft_1_2 : FTok 1 2 true (.array .int) := ⟨_, _, _, rfl, by decide, rfl, tyX1_ok 2 (by decide)⟩
theorem dc_1_2 : DCok 1 2 RX1 := ⟨_, _, _, rfl, rfl⟩
theorem ft_1_3 : FTok 1 3 true (.array .int) := ⟨_, _, _, rfl, by decide, rfl, tyX1_ok 3 (by decide)⟩
theorem dc_1_3 : DCok 1 3 RX1 := ⟨_, _, _, rfl, rfl⟩
theorem ft_1_4 : FTok 1 4 false .int := ⟨_, _, _, rfl, by decide, rfl, tyX1_ok 4 (by decide)⟩
theorem cl_ok_2 : CLok 2 := ⟨_, _, _, rfl, in_X2, ⟨tyX2, tyX2_ok⟩, nmX2⟩
theorem ft_2_0 : FTok 2 0 false .int := ⟨_, _, _, rfl, by decide, rfl, tyX2_ok 0 (by decide)⟩
theorem ft_2_1 : FTok 2 1 true (.array .int) := ⟨_, _, _, rfl, by decide, rfl, tyX2_ok 1 (by decide)⟩
theorem dc_2_1 : DCok 2 1 RX2 := ⟨_, _, _, rfl, rfl⟩
theorem ft_2_2 : FTok 2 2 true (.array .int) := ⟨_, _, _, rfl, by decide, rfl, tyX2_ok 2 (by decide)⟩
theorem dc_2_2 : DCok 2 2 RX2 := ⟨_, _, _, rfl, rfl⟩
theorem ft_2_3 : FTok 2 3 true (.array .int) := ⟨_, _, _, rfl, by decide, rfl, tyX2_ok 3 (by decide)⟩
theorem dc_2_3 : DCok 2 3 RX2 := ⟨_, _, _, rfl, rfl⟩
theorem ft_2_4 : FTok 2 4 true (.array .int) := ⟨_, _, _, rfl, by decide, rfl, tyX2_ok 4 (by decide)⟩
theorem dc_2_4 : DCok 2 4 RX2 := ⟨_, _, _, rfl, rfl⟩
theorem ft_2_5 : FTok 2 5 true (.array .int) := ⟨_, _, _, rfl, by decide, rfl, tyX2_ok 5 (by decide)⟩
theorem dc_2_5 : DCok 2 5 RX2 := ⟨_, _, _, rfl, rfl⟩
theorem ft_2_6 : FTok 2 6 false .int := ⟨_, _, _, rfl, by decide, rfl, tyX2_ok 6 (by decide)⟩
theorem ft_2_7 : FTok 2 7 false .int := ⟨_, _, _, rfl, by decide, rfl, tyX2_ok 7 (by decide)⟩
theorem ft_2_8 : FTok 2 8 true (.array .int) := ⟨_, _, _, rfl, by decide, rfl, tyX2_ok 8 (by decide)⟩
theorem dc_2_8 : DCok 2 8 RX2 := ⟨_, _, _, rfl, rfl⟩
theorem ft_2_9 : FTok 2 9 true (.array .int) := ⟨_, _, _, rfl, by decide, rfl, tyX2_ok 9 (by decide)⟩
theorem dc_2_9 : DCok 2 9 RX2 := ⟨_, _, _, rfl, rfl⟩
theorem ft_2_10 : FTok 2 10 false .int := ⟨_, _, _, rfl, by decide, rfl, tyX2_ok 10 (by decide)⟩
theorem ft_2_11 : FTok 2 11 false .int := ⟨_, _, _, rfl, by decide, rfl, tyX2_ok 11 (by decide)⟩
theorem ft_2_12 : FTok 2 12 false .boolean := ⟨_, _, _, rfl, by decide, rfl, tyX2_ok 12 (by decide)⟩
theorem ft_2_13 : FTok 2 13 false .int := ⟨_, _, _, rfl, by decide, rfl, tyX2_ok 13 (by decide)⟩
theorem ft_2_14 : FTok 2 14 true (.array .int) := ⟨_, _, _, rfl, by decide, rfl, tyX2_ok 14 (by decide)⟩
theorem dc_2_14 : DCok 2 14 RX2 := ⟨_, _, _, rfl, rfl⟩
theorem ft_2_15 : FTok 2 15 true (.array .int) := ⟨_, _, _, rfl, by decide, rfl, tyX2_ok 15 (by decide)⟩
theorem dc_2_15 : DCok 2 15 RX2 := ⟨_, _, _, rfl, rfl⟩
theorem ft_2_16 : FTok 2 16 true (.array .int) := ⟨_, _, _, rfl, by decide, rfl, tyX2_ok 16 (by decide)⟩
theorem dc_2_16 : DCok 2 16 RX2 := ⟨_, _, _, rfl, rfl⟩
theorem ft_2_17 : FTok 2 17 true (.array .int) := ⟨_, _, _, rfl, by decide, rfl, tyX2_ok 17 (by decide)⟩
theorem dc_2_17 : DCok 2 17 RX2 := ⟨_, _, _, rfl, rfl⟩
theorem ft_2_18 : FTok 2 18 true (.array .int) := ⟨_, _, _, rfl, by decide, rfl, tyX2_ok 18 (by decide)⟩
theorem dc_2_18 : DCok 2 18 RX2 := ⟨_, _, _, rfl, rfl⟩
theorem ft_2_19 : FTok 2 19 false .boolean := ⟨_, _, _, rfl, by decide, rfl, tyX2_ok 19 (by decide)⟩
theorem ft_2_20 : FTok 2 20 false .int := ⟨_, _, _, rfl, by decide, rfl, tyX2_ok 20 (by decide)⟩
theorem ft_2_21 : FTok 2 21 false .boolean := ⟨_, _, _, rfl, by decide, rfl, tyX2_ok 21 (by decide)⟩
theorem ft_2_22 : FTok 2 22 false (.array .int) := ⟨_, _, _, rfl, by decide, rfl, tyX2_ok 22 (by decide)⟩
theorem ft_2_23 : FTok 2 23 true (.array .int) := ⟨_, _, _, rfl, by decide, rfl, tyX2_ok 23 (by decide)⟩
theorem dc_2_23 : DCok 2 23 RX2 := ⟨_, _, _, rfl, rfl⟩
theorem ft_2_24 : FTok 2 24 true (.array .int) := ⟨_, _, _, rfl, by decide, rfl, tyX2_ok 24 (by decide)⟩
theorem dc_2_24 : DCok 2 24 RX2 := ⟨_, _, _, rfl, rfl⟩
theorem ft_2_25 : FTok 2 25 false .int := ⟨_, _, _, rfl, by decide, rfl, tyX2_ok 25 (by decide)⟩
theorem ft_2_26 : FTok 2 26 true (.array .int) := ⟨_, _, _, rfl, by decide, rfl, tyX2_ok 26 (by decide)⟩
theorem dc_2_26 : DCok 2 26 RX2 := ⟨_, _, _, rfl, rfl⟩
theorem ft_2_27 : FTok 2 27 false .int := ⟨_, _, _, rfl, by decide, rfl, tyX2_ok 27 (by decide)⟩
theorem ft_2_28 : FTok 2 28 false .int := ⟨_, _, _, rfl, by decide, rfl, tyX2_ok 28 (by decide)⟩
theorem ft_2_29 : FTok 2 29 true (.array .int) := ⟨_, _, _, rfl, by decide, rfl, tyX2_ok 29 (by decide)⟩
theorem dc_2_29 : DCok 2 29 RX2 := ⟨_, _, _, rfl, rfl⟩
theorem ft_2_30 : FTok 2 30 true (.array .int) := ⟨_, _, _, rfl, by decide, rfl, tyX2_ok 30 (by decide)⟩
theorem dc_2_30 : DCok 2 30 RX2 := ⟨_, _, _, rfl, rfl⟩
theorem ft_2_31 : FTok 2 31 false .int := ⟨_, _, _, rfl, by decide, rfl, tyX2_ok 31 (by decide)⟩
theorem ft_2_32 : FTok 2 32 false .int := ⟨_, _, _, rfl, by decide, rfl, tyX2_ok 32 (by decide)⟩
theorem cl_ok_3 : CLok 3 := ⟨_, _, _, rfl, in_X3, ⟨tyX3, tyX3_ok⟩, nmX3⟩
theorem ft_3_0 : FTok 3 0 false .int := ⟨_, _, _, rfl, by decide, rfl, tyX3_ok 0 (by decide)⟩
theorem ft_3_1 : FTok 3 1 false .int := ⟨_, _, _, rfl, by decide, rfl, tyX3_ok 1 (by decide)⟩
theorem ft_3_2 : FTok 3 2 false .int := ⟨_, _, _, rfl, by decide, rfl, tyX3_ok 2 (by decide)⟩
theorem ft_3_3 : FTok 3 3 true (.object "PrayerMatsFace") := ⟨_, _, _, rfl, by decide, rfl, tyX3_ok 3 (by decide)⟩
theorem dc_3_3 : DCok 3 3 RX3 := ⟨_, _, _, rfl, rfl⟩
theorem cl_ok_4 : CLok 4 := ⟨_, _, _, rfl, in_X4, ⟨tyX4, tyX4_ok⟩, nmX4⟩
theorem ft_4_0 : FTok 4 0 false (.object "java/lang/Throwable") := ⟨_, _, _, rfl, by decide, rfl, tyX4_ok 0 (by decide)⟩
theorem ft_4_1 : FTok 4 1 false (.array (.object "java/lang/StackTraceElement")) := ⟨_, _, _, rfl, by decide, rfl, tyX4_ok 1 (by decide)⟩
theorem ft_4_2 : FTok 4 2 false (.object "java/util/List") := ⟨_, _, _, rfl, by decide, rfl, tyX4_ok 2 (by decide)⟩
theorem ft_4_3 : FTok 4 3 false (.object "java/lang/String") := ⟨_, _, _, rfl, by decide, rfl, tyX4_ok 3 (by decide)⟩
theorem ft_4_4 : FTok 4 4 false (.object "java/lang/Object") := ⟨_, _, _, rfl, by decide, rfl, tyX4_ok 4 (by decide)⟩
theorem ft_4_5 : FTok 4 5 false .int := ⟨_, _, _, rfl, by decide, rfl, tyX4_ok 5 (by decide)⟩
theorem ft_4_6 : FTok 4 6 true .int := ⟨_, _, _, rfl, by decide, rfl, tyX4_ok 6 (by decide)⟩
theorem dc_4_6 : DCok 4 6 RX4 := ⟨_, _, _, rfl, rfl⟩
theorem cl_ok_5 : CLok 5 := ⟨_, _, _, rfl, in_X5, ⟨tyX5, tyX5_ok⟩, nmX5⟩
theorem ft_5_0 : FTok 5 0 true .int := ⟨_, _, _, rfl, by decide, rfl, tyX5_ok 0 (by decide)⟩
theorem dc_5_0 : DCok 5 0 RX5 := ⟨_, _, _, rfl, rfl⟩
theorem ft_5_1 : FTok 5 1 true .int := ⟨_, _, _, rfl, by decide, rfl, tyX5_ok 1 (by decide)⟩
theorem dc_5_1 : DCok 5 1 RX5 := ⟨_, _, _, rfl, rfl⟩
theorem cl_ok_6 : CLok 6 := ⟨_, _, _, rfl, in_X6, ⟨tyX6, tyX6_ok⟩, nmX6⟩
theorem ft_6_0 : FTok 6 0 true .int := ⟨_, _, _, rfl, by decide, rfl, tyX6_ok 0 (by decide)⟩
theorem dc_6_0 : DCok 6 0 RX5 := ⟨_, _, _, rfl, rfl⟩
theorem ft_6_1 : FTok 6 1 true .int := ⟨_, _, _, rfl, by decide, rfl, tyX6_ok 1 (by decide)⟩
theorem dc_6_1 : DCok 6 1 RX5 := ⟨_, _, _, rfl, rfl⟩
theorem cl_ok_7 : CLok 7 := ⟨_, _, _, rfl, in_X7, ⟨tyX7, tyX7_ok⟩, nmX7⟩
theorem ft_7_0 : FTok 7 0 true .int := ⟨_, _, _, rfl, by decide, rfl, tyX7_ok 0 (by decide)⟩
theorem dc_7_0 : DCok 7 0 RX5 := ⟨_, _, _, rfl, rfl⟩
theorem ft_7_1 : FTok 7 1 true .int := ⟨_, _, _, rfl, by decide, rfl, tyX7_ok 1 (by decide)⟩
theorem dc_7_1 : DCok 7 1 RX5 := ⟨_, _, _, rfl, rfl⟩
theorem cl_ok_8 : CLok 8 := ⟨_, _, _, rfl, in_X8, ⟨tyX8, tyX8_ok⟩, nmX8⟩
theorem ft_8_0 : FTok 8 0 true .int := ⟨_, _, _, rfl, by decide, rfl, tyX8_ok 0 (by decide)⟩
theorem dc_8_0 : DCok 8 0 RX5 := ⟨_, _, _, rfl, rfl⟩
theorem ft_8_1 : FTok 8 1 true .int := ⟨_, _, _, rfl, by decide, rfl, tyX8_ok 1 (by decide)⟩
theorem dc_8_1 : DCok 8 1 RX5 := ⟨_, _, _, rfl, rfl⟩
theorem cl_ok_9 : CLok 9 := ⟨_, _, _, rfl, in_X9, ⟨tyX9, tyX9_ok⟩, nmX9⟩
theorem ft_9_0 : FTok 9 0 true .int := ⟨_, _, _, rfl, by decide, rfl, tyX9_ok 0 (by decide)⟩
theorem dc_9_0 : DCok 9 0 RX5 := ⟨_, _, _, rfl, rfl⟩
theorem ft_9_1 : FTok 9 1 true .int := ⟨_, _, _, rfl, by decide, rfl, tyX9_ok 1 (by decide)⟩
theorem dc_9_1 : DCok 9 1 RX5 := ⟨_, _, _, rfl, rfl⟩
theorem cl_ok_10 : CLok 10 := ⟨_, _, _, rfl, in_X10, ⟨tyX10, tyX10_ok⟩, nmX10⟩
theorem ft_10_0 : FTok 10 0 true .int := ⟨_, _, _, rfl, by decide, rfl, tyX10_ok 0 (by decide)⟩
theorem dc_10_0 : DCok 10 0 RX5 := ⟨_, _, _, rfl, rfl⟩
theorem ft_10_1 : FTok 10 1 true .int := ⟨_, _, _, rfl, by decide, rfl, tyX10_ok 1 (by decide)⟩
theorem dc_10_1 : DCok 10 1 RX5 := ⟨_, _, _, rfl, rfl⟩
theorem cl_ok_11 : CLok 11 := ⟨_, _, _, rfl, in_J2, ⟨tyJ2, tyJ2_ok⟩, nmJ2⟩
theorem ft_11_0 : FTok 11 0 false .int := ⟨_, _, _, rfl, by decide, rfl, tyJ2_ok 0 (by decide)⟩
theorem ft_11_1 : FTok 11 1 false (.array (.object "java/lang/Object")) := ⟨_, _, _, rfl, by decide, rfl, tyJ2_ok 1 (by decide)⟩
theorem ft_11_2 : FTok 11 2 false .int := ⟨_, _, _, rfl, by decide, rfl, tyJ2_ok 2 (by decide)⟩
theorem gf_X0_7_0 : GFok RX0 7 0 0 := ⟨_, "PrayerMatsFace", _, _, rfl, in_X0, by decide, q171, Or.inl rfl⟩
theorem gf_X0_16_0 : GFok RX0 16 0 1 := ⟨_, "PrayerMatsFace", _, _, rfl, in_X0, by decide, q172, Or.inl rfl⟩
theorem gf_X0_20_0 : GFok RX0 20 0 2 := ⟨_, "PrayerMatsFace", _, _, rfl, in_X0, by decide, q173, Or.inl rfl⟩
theorem gf_X0_23_0 : GFok RX0 23 0 3 := ⟨_, "PrayerMatsFace", _, _, rfl, in_X0, by decide, q174, Or.inl rfl⟩
theorem gf_X0_26_0 : GFok RX0 26 0 4 := ⟨_, "PrayerMatsFace", _, _, rfl, in_X0, by decide, q176, Or.inl rfl⟩
theorem gf_X0_29_0 : GFok RX0 29 0 6 := ⟨_, "PrayerMatsFace", _, _, rfl, in_X0, by decide, q178, Or.inl rfl⟩
theorem gf_X0_32_0 : GFok RX0 32 0 8 := ⟨_, "PrayerMatsFace", _, _, rfl, in_X0, by decide, q182, Or.inl rfl⟩
theorem gf_X0_36_0 : GFok RX0 36 0 10 := ⟨_, "PrayerMatsFace", _, _, rfl, in_X0, by decide, q184, Or.inl rfl⟩
theorem gf_X0_39_0 : GFok RX0 39 0 14 := ⟨_, "PrayerMatsFace", _, _, rfl, in_X0, by decide, q188, Or.inl rfl⟩
theorem gf_X0_90_0 : GFok RX0 90 0 7 := ⟨_, "PrayerMatsFace", _, _, rfl, in_X0, by decide, q181, Or.inl rfl⟩
theorem gf_X0_118_0 : GFok RX0 118 0 9 := ⟨_, "PrayerMatsFace", _, _, rfl, in_X0, by decide, q183, Or.inl rfl⟩
theorem gf_X0_128_5 : GFok RX0 128 5 0 := ⟨_, "PrayerMatsFace$Person", _, _, rfl, in_X5, by decide, q468, Or.inl rfl⟩
theorem gf_X0_128_6 : GFok RX0 128 6 0 := ⟨_, "PrayerMatsFace$Person", _, _, rfl, in_X6, by decide, q468, Or.inl rfl⟩
theorem gf_X0_128_7 : GFok RX0 128 7 0 := ⟨_, "PrayerMatsFace$Person", _, _, rfl, in_X7, by decide, q468, Or.inl rfl⟩
theorem gf_X0_128_8 : GFok RX0 128 8 0 := ⟨_, "PrayerMatsFace$Person", _, _, rfl, in_X8, by decide, q468, Or.inl rfl⟩
theorem gf_X0_128_9 : GFok RX0 128 9 0 := ⟨_, "PrayerMatsFace$Person", _, _, rfl, in_X9, by decide, q468, Or.inl rfl⟩
theorem gf_X0_128_10 : GFok RX0 128 10 0 := ⟨_, "PrayerMatsFace$Person", _, _, rfl, in_X10, by decide, q468, Or.inl rfl⟩
theorem gf_X0_131_5 : GFok RX0 131 5 1 := ⟨_, "PrayerMatsFace$Person", _, _, rfl, in_X5, by decide, q474, Or.inl rfl⟩
theorem gf_X0_131_6 : GFok RX0 131 6 1 := ⟨_, "PrayerMatsFace$Person", _, _, rfl, in_X6, by decide, q474, Or.inl rfl⟩
theorem gf_X0_131_7 : GFok RX0 131 7 1 := ⟨_, "PrayerMatsFace$Person", _, _, rfl, in_X7, by decide, q474, Or.inl rfl⟩
theorem gf_X0_131_8 : GFok RX0 131 8 1 := ⟨_, "PrayerMatsFace$Person", _, _, rfl, in_X8, by decide, q474, Or.inl rfl⟩
theorem gf_X0_131_9 : GFok RX0 131 9 1 := ⟨_, "PrayerMatsFace$Person", _, _, rfl, in_X9, by decide, q474, Or.inl rfl⟩
theorem gf_X0_131_10 : GFok RX0 131 10 1 := ⟨_, "PrayerMatsFace$Person", _, _, rfl, in_X10, by decide, q474, Or.inl rfl⟩
theorem gf_X0_224_0 : GFok RX0 224 0 11 := ⟨_, "PrayerMatsFace", _, _, rfl, in_X0, by decide, q185, Or.inl rfl⟩
theorem gf_X0_230_0 : GFok RX0 230 0 13 := ⟨_, "PrayerMatsFace", _, _, rfl, in_X0, by decide, q187, Or.inl rfl⟩
theorem gf_X0_233_0 : GFok RX0 233 0 12 := ⟨_, "PrayerMatsFace", _, _, rfl, in_X0, by decide, q186, Or.inl rfl⟩
theorem gf_X0_262_0 : GFok RX0 262 0 15 := ⟨_, "PrayerMatsFace", _, _, rfl, in_X0, by decide, q189, Or.inl rfl⟩
theorem gf_X0_331_0 : GFok RX0 331 0 16 := ⟨_, "PrayerMatsFace", _, _, rfl, in_X0, by decide, q190, Or.inl rfl⟩
theorem gf_X0_340_0 : GFok RX0 340 0 5 := ⟨_, "PrayerMatsFace", _, _, rfl, in_X0, by decide, q177, Or.inl rfl⟩
theorem gf_X6_7_5 : GFok RX6 7 5 1 := ⟨_, "PrayerMatsFace$Merchant", _, _, rfl, in_X5, by decide, q470, Or.inr q471⟩
theorem gf_X6_7_6 : GFok RX6 7 6 1 := ⟨_, "PrayerMatsFace$Merchant", _, _, rfl, in_X6, by decide, q470, Or.inr q471⟩
theorem gf_X6_7_7 : GFok RX6 7 7 1 := ⟨_, "PrayerMatsFace$Merchant", _, _, rfl, in_X7, by decide, q470, Or.inr q471⟩
theorem gf_X6_7_8 : GFok RX6 7 8 1 := ⟨_, "PrayerMatsFace$Merchant", _, _, rfl, in_X8, by decide, q470, Or.inr q471⟩
theorem gf_X6_7_9 : GFok RX6 7 9 1 := ⟨_, "PrayerMatsFace$Merchant", _, _, rfl, in_X9, by decide, q470, Or.inr q471⟩
theorem gf_X6_7_10 : GFok RX6 7 10 1 := ⟨_, "PrayerMatsFace$Merchant", _, _, rfl, in_X10, by decide, q470, Or.inr q471⟩
theorem gf_X5_7_5 : GFok RX5 7 5 0 := ⟨_, "PrayerMatsFace$Person", _, _, rfl, in_X5, by decide, q467, Or.inl rfl⟩
theorem gf_X5_7_6 : GFok RX5 7 6 0 := ⟨_, "PrayerMatsFace$Person", _, _, rfl, in_X6, by decide, q467, Or.inl rfl⟩
theorem gf_X5_7_7 : GFok RX5 7 7 0 := ⟨_, "PrayerMatsFace$Person", _, _, rfl, in_X7, by decide, q467, Or.inl rfl⟩
theorem gf_X5_7_8 : GFok RX5 7 8 0 := ⟨_, "PrayerMatsFace$Person", _, _, rfl, in_X8, by decide, q467, Or.inl rfl⟩
theorem gf_X5_7_9 : GFok RX5 7 9 0 := ⟨_, "PrayerMatsFace$Person", _, _, rfl, in_X9, by decide, q467, Or.inl rfl⟩
theorem gf_X5_7_10 : GFok RX5 7 10 0 := ⟨_, "PrayerMatsFace$Person", _, _, rfl, in_X10, by decide, q467, Or.inl rfl⟩
theorem gf_X5_13_5 : GFok RX5 13 5 1 := ⟨_, "PrayerMatsFace$Person", _, _, rfl, in_X5, by decide, q469, Or.inl rfl⟩
theorem gf_X5_13_6 : GFok RX5 13 6 1 := ⟨_, "PrayerMatsFace$Person", _, _, rfl, in_X6, by decide, q469, Or.inl rfl⟩
theorem gf_X5_13_7 : GFok RX5 13 7 1 := ⟨_, "PrayerMatsFace$Person", _, _, rfl, in_X7, by decide, q469, Or.inl rfl⟩
theorem gf_X5_13_8 : GFok RX5 13 8 1 := ⟨_, "PrayerMatsFace$Person", _, _, rfl, in_X8, by decide, q469, Or.inl rfl⟩
theorem gf_X5_13_9 : GFok RX5 13 9 1 := ⟨_, "PrayerMatsFace$Person", _, _, rfl, in_X9, by decide, q469, Or.inl rfl⟩
theorem gf_X5_13_10 : GFok RX5 13 10 1 := ⟨_, "PrayerMatsFace$Person", _, _, rfl, in_X10, by decide, q469, Or.inl rfl⟩
theorem gf_X1_14_1 : GFok RX1 14 1 0 := ⟨_, "PrayerMatsFace$Quarter", _, _, rfl, in_X1, by decide, q148, Or.inl rfl⟩
theorem gf_X1_20_1 : GFok RX1 20 1 1 := ⟨_, "PrayerMatsFace$Quarter", _, _, rfl, in_X1, by decide, q150, Or.inl rfl⟩
theorem gf_X1_24_1 : GFok RX1 24 1 2 := ⟨_, "PrayerMatsFace$Quarter", _, _, rfl, in_X1, by decide, q153, Or.inl rfl⟩
theorem gf_X1_27_1 : GFok RX1 27 1 3 := ⟨_, "PrayerMatsFace$Quarter", _, _, rfl, in_X1, by decide, q155, Or.inl rfl⟩
theorem gf_X1_51_1 : GFok RX1 51 1 4 := ⟨_, "PrayerMatsFace$Quarter", _, _, rfl, in_X1, by decide, q156, Or.inl rfl⟩
theorem gf_X3_3_3 : GFok RX3 3 3 3 := ⟨_, "PrayerMatsFace$Reader", _, _, rfl, in_X3, by decide, q343, Or.inl rfl⟩
theorem gf_X3_15_3 : GFok RX3 15 3 1 := ⟨_, "PrayerMatsFace$Reader", _, _, rfl, in_X3, by decide, q340, Or.inl rfl⟩
theorem gf_X3_19_3 : GFok RX3 19 3 0 := ⟨_, "PrayerMatsFace$Reader", _, _, rfl, in_X3, by decide, q339, Or.inl rfl⟩
theorem gf_X3_40_3 : GFok RX3 40 3 2 := ⟨_, "PrayerMatsFace$Reader", _, _, rfl, in_X3, by decide, q342, Or.inl rfl⟩
theorem gf_X4_7_4 : GFok RX4 7 4 6 := ⟨_, "PrayerMatsFace$Refused", _, _, rfl, in_X4, by decide, q422, Or.inl rfl⟩
theorem gf_X8_11_5 : GFok RX8 11 5 1 := ⟨_, "PrayerMatsFace$Widower", _, _, rfl, in_X5, by decide, q472, Or.inr q473⟩
theorem gf_X8_11_6 : GFok RX8 11 6 1 := ⟨_, "PrayerMatsFace$Widower", _, _, rfl, in_X6, by decide, q472, Or.inr q473⟩
theorem gf_X8_11_7 : GFok RX8 11 7 1 := ⟨_, "PrayerMatsFace$Widower", _, _, rfl, in_X7, by decide, q472, Or.inr q473⟩
theorem gf_X8_11_8 : GFok RX8 11 8 1 := ⟨_, "PrayerMatsFace$Widower", _, _, rfl, in_X8, by decide, q472, Or.inr q473⟩
theorem gf_X8_11_9 : GFok RX8 11 9 1 := ⟨_, "PrayerMatsFace$Widower", _, _, rfl, in_X9, by decide, q472, Or.inr q473⟩
theorem gf_X8_11_10 : GFok RX8 11 10 1 := ⟨_, "PrayerMatsFace$Widower", _, _, rfl, in_X10, by decide, q472, Or.inr q473⟩
theorem gf_X2_7_2 : GFok RX2 7 2 1 := ⟨_, "PrayerMatsFaceModel", _, _, rfl, in_X2, by decide, q1010, Or.inl rfl⟩
theorem gf_X2_13_2 : GFok RX2 13 2 2 := ⟨_, "PrayerMatsFaceModel", _, _, rfl, in_X2, by decide, q1011, Or.inl rfl⟩
theorem gf_X2_16_2 : GFok RX2 16 2 3 := ⟨_, "PrayerMatsFaceModel", _, _, rfl, in_X2, by decide, q1012, Or.inl rfl⟩
theorem gf_X2_19_2 : GFok RX2 19 2 4 := ⟨_, "PrayerMatsFaceModel", _, _, rfl, in_X2, by decide, q1013, Or.inl rfl⟩
theorem gf_X2_22_2 : GFok RX2 22 2 5 := ⟨_, "PrayerMatsFaceModel", _, _, rfl, in_X2, by decide, q1014, Or.inl rfl⟩
theorem gf_X2_25_2 : GFok RX2 25 2 8 := ⟨_, "PrayerMatsFaceModel", _, _, rfl, in_X2, by decide, q1017, Or.inl rfl⟩
theorem gf_X2_28_2 : GFok RX2 28 2 9 := ⟨_, "PrayerMatsFaceModel", _, _, rfl, in_X2, by decide, q1018, Or.inl rfl⟩
theorem gf_X2_31_2 : GFok RX2 31 2 14 := ⟨_, "PrayerMatsFaceModel", _, _, rfl, in_X2, by decide, q1023, Or.inl rfl⟩
theorem gf_X2_34_2 : GFok RX2 34 2 15 := ⟨_, "PrayerMatsFaceModel", _, _, rfl, in_X2, by decide, q1024, Or.inl rfl⟩
theorem gf_X2_37_2 : GFok RX2 37 2 16 := ⟨_, "PrayerMatsFaceModel", _, _, rfl, in_X2, by decide, q1025, Or.inl rfl⟩
theorem gf_X2_40_2 : GFok RX2 40 2 17 := ⟨_, "PrayerMatsFaceModel", _, _, rfl, in_X2, by decide, q1026, Or.inl rfl⟩
theorem gf_X2_43_2 : GFok RX2 43 2 18 := ⟨_, "PrayerMatsFaceModel", _, _, rfl, in_X2, by decide, q1027, Or.inl rfl⟩
theorem gf_X2_46_2 : GFok RX2 46 2 23 := ⟨_, "PrayerMatsFaceModel", _, _, rfl, in_X2, by decide, q1032, Or.inl rfl⟩
theorem gf_X2_49_2 : GFok RX2 49 2 24 := ⟨_, "PrayerMatsFaceModel", _, _, rfl, in_X2, by decide, q1033, Or.inl rfl⟩
theorem gf_X2_52_2 : GFok RX2 52 2 26 := ⟨_, "PrayerMatsFaceModel", _, _, rfl, in_X2, by decide, q1035, Or.inl rfl⟩
theorem gf_X2_55_2 : GFok RX2 55 2 28 := ⟨_, "PrayerMatsFaceModel", _, _, rfl, in_X2, by decide, q1037, Or.inl rfl⟩
theorem gf_X2_59_2 : GFok RX2 59 2 29 := ⟨_, "PrayerMatsFaceModel", _, _, rfl, in_X2, by decide, q1038, Or.inl rfl⟩
theorem gf_X2_62_2 : GFok RX2 62 2 30 := ⟨_, "PrayerMatsFaceModel", _, _, rfl, in_X2, by decide, q1039, Or.inl rfl⟩
theorem gf_X2_65_2 : GFok RX2 65 2 7 := ⟨_, "PrayerMatsFaceModel", _, _, rfl, in_X2, by decide, q1016, Or.inl rfl⟩
theorem gf_X2_68_2 : GFok RX2 68 2 0 := ⟨_, "PrayerMatsFaceModel", _, _, rfl, in_X2, by decide, q1009, Or.inl rfl⟩
theorem gf_X2_106_2 : GFok RX2 106 2 6 := ⟨_, "PrayerMatsFaceModel", _, _, rfl, in_X2, by decide, q1015, Or.inl rfl⟩
theorem gf_X2_131_2 : GFok RX2 131 2 10 := ⟨_, "PrayerMatsFaceModel", _, _, rfl, in_X2, by decide, q1019, Or.inl rfl⟩
theorem gf_X2_134_2 : GFok RX2 134 2 11 := ⟨_, "PrayerMatsFaceModel", _, _, rfl, in_X2, by decide, q1020, Or.inl rfl⟩
theorem gf_X2_137_2 : GFok RX2 137 2 12 := ⟨_, "PrayerMatsFaceModel", _, _, rfl, in_X2, by decide, q1021, Or.inl rfl⟩
theorem gf_X2_152_2 : GFok RX2 152 2 13 := ⟨_, "PrayerMatsFaceModel", _, _, rfl, in_X2, by decide, q1022, Or.inl rfl⟩
theorem gf_X2_187_2 : GFok RX2 187 2 25 := ⟨_, "PrayerMatsFaceModel", _, _, rfl, in_X2, by decide, q1034, Or.inl rfl⟩
theorem gf_X2_190_2 : GFok RX2 190 2 21 := ⟨_, "PrayerMatsFaceModel", _, _, rfl, in_X2, by decide, q1030, Or.inl rfl⟩
theorem gf_X2_193_2 : GFok RX2 193 2 22 := ⟨_, "PrayerMatsFaceModel", _, _, rfl, in_X2, by decide, q1031, Or.inl rfl⟩
theorem gf_X2_196_2 : GFok RX2 196 2 20 := ⟨_, "PrayerMatsFaceModel", _, _, rfl, in_X2, by decide, q1029, Or.inl rfl⟩
theorem gf_X2_206_2 : GFok RX2 206 2 19 := ⟨_, "PrayerMatsFaceModel", _, _, rfl, in_X2, by decide, q1028, Or.inl rfl⟩
theorem gf_X2_253_2 : GFok RX2 253 2 27 := ⟨_, "PrayerMatsFaceModel", _, _, rfl, in_X2, by decide, q1036, Or.inl rfl⟩
theorem gf_X2_273_2 : GFok RX2 273 2 31 := ⟨_, "PrayerMatsFaceModel", _, _, rfl, in_X2, by decide, q1040, Or.inl rfl⟩
theorem gf_X2_301_2 : GFok RX2 301 2 32 := ⟨_, "PrayerMatsFaceModel", _, _, rfl, in_X2, by decide, q1041, Or.inl rfl⟩
theorem gf_J8_7_4 : GFok RJ8 7 4 0 := ⟨_, "java/lang/Throwable", _, _, rfl, in_X4, by decide, q426, Or.inl rfl⟩
theorem gf_J8_17_4 : GFok RJ8 17 4 1 := ⟨_, "java/lang/Throwable", _, _, rfl, in_X4, by decide, q427, Or.inl rfl⟩
theorem gf_J8_24_4 : GFok RJ8 24 4 2 := ⟨_, "java/lang/Throwable", _, _, rfl, in_X4, by decide, q428, Or.inl rfl⟩
theorem gf_J8_31_4 : GFok RJ8 31 4 3 := ⟨_, "java/lang/Throwable", _, _, rfl, in_X4, by decide, q425, Or.inl rfl⟩
theorem gf_J8_198_4 : GFok RJ8 198 4 4 := ⟨_, "java/lang/Throwable", _, _, rfl, in_X4, by decide, q424, Or.inl rfl⟩
theorem gf_J1_7_11 : GFok RJ1 7 11 0 := ⟨_, "java/util/AbstractList", _, _, rfl, in_J2, by decide, q137, Or.inl rfl⟩
theorem gf_J2_9_11 : GFok RJ2 9 11 1 := ⟨_, "java/util/ArrayList", _, _, rfl, in_J2, by decide, q135, Or.inl rfl⟩
theorem gf_J2_48_11 : GFok RJ2 48 11 2 := ⟨_, "java/util/ArrayList", _, _, rfl, in_J2, by decide, q136, Or.inl rfl⟩
theorem gf_J2_63_11 : GFok RJ2 63 11 0 := ⟨_, "java/util/ArrayList", _, _, rfl, in_J2, by decide, q138, Or.inr q139⟩
theorem gn_X0_115_3 : GNok RX0 115 3 1 := ⟨_, "PrayerMatsFace$Reader", "PrayerMatsFace", _, _, rfl, in_X3, by decide, q341, rfl⟩
theorem gn_X0_121_4 : GNok RX0 121 4 6 := ⟨_, "PrayerMatsFace$Refused", "PrayerMatsFace", _, _, rfl, in_X4, by decide, q423, rfl⟩
theorem gn_X0_134_1 : GNok RX0 134 1 1 := ⟨_, "PrayerMatsFace$Quarter", "PrayerMatsFace", _, _, rfl, in_X1, by decide, q152, rfl⟩
theorem gn_X0_178_1 : GNok RX0 178 1 4 := ⟨_, "PrayerMatsFace$Quarter", "PrayerMatsFace", _, _, rfl, in_X1, by decide, q158, rfl⟩
theorem gn_X0_265_1 : GNok RX0 265 1 0 := ⟨_, "PrayerMatsFace$Quarter", "PrayerMatsFace", _, _, rfl, in_X1, by decide, q149, rfl⟩
theorem gn_X0_94_1 : GNok RX0 94 1 2 := ⟨_, "PrayerMatsFace$Quarter", "PrayerMatsFace", _, _, rfl, in_X1, by decide, q154, rfl⟩
theorem gn_X3_22_0 : GNok RX3 22 0 7 := ⟨_, "PrayerMatsFace", "PrayerMatsFace", _, _, rfl, in_X0, by decide, q180, rfl⟩
theorem gn_X3_25_0 : GNok RX3 25 0 6 := ⟨_, "PrayerMatsFace", "PrayerMatsFace", _, _, rfl, in_X0, by decide, q179, rfl⟩
theorem gn_X3_43_0 : GNok RX3 43 0 3 := ⟨_, "PrayerMatsFace", "PrayerMatsFace", _, _, rfl, in_X0, by decide, q175, rfl⟩
theorem gn_X3_70_1 : GNok RX3 70 1 1 := ⟨_, "PrayerMatsFace$Quarter", "PrayerMatsFace", _, _, rfl, in_X1, by decide, q151, rfl⟩
theorem gn_X3_85_1 : GNok RX3 85 1 4 := ⟨_, "PrayerMatsFace$Quarter", "PrayerMatsFace", _, _, rfl, in_X1, by decide, q157, rfl⟩
theorem nw_X0_107 : NWok RX0 107 3 4 [.int 0, .int 0, .int 0, .null] := ⟨_, _, tyX3, rfl, in_X3, tyX3_ok, q333, q334, q94, by intro j hj; match j, hj with | 0, _ => rfl | 1, _ => rfl | 2, _ => rfl | 3, _ => rfl | j + 4, hj => exact absurd hj (by omega)⟩
theorem nw_X0_13 : NWok RX0 13 1 5 [.null, .null, .null, .null, .int 0] := ⟨_, _, tyX1, rfl, in_X1, tyX1_ok, q113, q114, q83, by intro j hj; match j, hj with | 0, _ => rfl | 1, _ => rfl | 2, _ => rfl | 3, _ => rfl | 4, _ => rfl | j + 5, hj => exact absurd hj (by omega)⟩
theorem nw_X0_42 : NWok RX0 42 4 7 [.null, .null, .null, .null, .null, .int 0, .int 0] := ⟨_, _, tyX4, rfl, in_X4, tyX4_ok, q241, q372, q98, by intro j hj; match j, hj with | 0, _ => rfl | 1, _ => rfl | 2, _ => rfl | 3, _ => rfl | 4, _ => rfl | 5, _ => rfl | 6, _ => rfl | j + 7, hj => exact absurd hj (by omega)⟩
theorem nw_X0_54 : NWok RX0 54 6 2 [.int 0, .int 0] := ⟨_, _, tyX6, rfl, in_X6, tyX6_ok, q458, q459, q100, by intro j hj; match j, hj with | 0, _ => rfl | 1, _ => rfl | j + 2, hj => exact absurd hj (by omega)⟩
theorem nw_X0_59 : NWok RX0 59 7 2 [.int 0, .int 0] := ⟨_, _, tyX7, rfl, in_X7, tyX7_ok, q480, q481, q101, by intro j hj; match j, hj with | 0, _ => rfl | 1, _ => rfl | j + 2, hj => exact absurd hj (by omega)⟩
theorem nw_X0_62 : NWok RX0 62 8 2 [.int 0, .int 0] := ⟨_, _, tyX8, rfl, in_X8, tyX8_ok, q489, q490, q102, by intro j hj; match j, hj with | 0, _ => rfl | 1, _ => rfl | j + 2, hj => exact absurd hj (by omega)⟩
theorem nw_X0_65 : NWok RX0 65 9 2 [.int 0, .int 0] := ⟨_, _, tyX9, rfl, in_X9, tyX9_ok, q498, q499, q103, by intro j hj; match j, hj with | 0, _ => rfl | 1, _ => rfl | j + 2, hj => exact absurd hj (by omega)⟩
theorem nw_X0_68 : NWok RX0 68 10 2 [.int 0, .int 0] := ⟨_, _, tyX10, rfl, in_X10, tyX10_ok, q507, q508, q104, by intro j hj; match j, hj with | 0, _ => rfl | 1, _ => rfl | j + 2, hj => exact absurd hj (by omega)⟩
theorem nw_X0_71 : NWok RX0 71 5 2 [.int 0, .int 0] := ⟨_, _, tyX5, rfl, in_X5, tyX5_ok, q516, q517, q99, by intro j hj; match j, hj with | 0, _ => rfl | 1, _ => rfl | j + 2, hj => exact absurd hj (by omega)⟩
theorem nw_X1_59 : NWok RX1 59 5 2 [.int 0, .int 0] := ⟨_, _, tyX5, rfl, in_X5, tyX5_ok, q272, q517, q99, by intro j hj; match j, hj with | 0, _ => rfl | 1, _ => rfl | j + 2, hj => exact absurd hj (by omega)⟩
theorem nw_X1_9 : NWok RX1 9 11 3 [.int 0, .null, .int 0] := ⟨_, _, tyJ2, rfl, in_J2, tyJ2_ok, q119, q120, q86, by intro j hj; match j, hj with | 0, _ => rfl | 1, _ => rfl | 2, _ => rfl | j + 3, hj => exact absurd hj (by omega)⟩
theorem nw_X3_106 : NWok RX3 106 4 7 [.null, .null, .null, .null, .null, .int 0, .int 0] := ⟨_, _, tyX4, rfl, in_X4, tyX4_ok, q632, q372, q98, by intro j hj; match j, hj with | 0, _ => rfl | 1, _ => rfl | 2, _ => rfl | 3, _ => rfl | 4, _ => rfl | 5, _ => rfl | 6, _ => rfl | j + 7, hj => exact absurd hj (by omega)⟩
theorem ci_X0_1 : CIok RX0 1 yJ11_init cJ11_init 1 0 := ⟨⟨q112, q1511, q110, q111, rfl⟩, by decide +kernel, by decide⟩
theorem ci_X0_44 : CIok RX0 44 yX4_init cX4_init 2 1 := ⟨⟨q412, q98, q410, q411, rfl⟩, by decide +kernel, by decide⟩
theorem cv_X0_48 : CVok RX0 48 RX0 yX0_refuse cX0_refuse 2 (some FieldType.int) 1 := ⟨lw_V q233 q235 qs0 q82 q236, by decide +kernel, by decide⟩
theorem ci_X0_56 : CIok RX0 56 yX6_init cX6_init 3 2 := ⟨⟨q462, q100, q460, q461, rfl⟩, by decide +kernel, by decide⟩
theorem ci_X0_61 : CIok RX0 61 yX7_init cX7_init 3 2 := ⟨⟨q484, q101, q482, q483, rfl⟩, by decide +kernel, by decide⟩
theorem ci_X0_64 : CIok RX0 64 yX8_init cX8_init 3 2 := ⟨⟨q493, q102, q491, q492, rfl⟩, by decide +kernel, by decide⟩
theorem ci_X0_67 : CIok RX0 67 yX9_init cX9_init 3 2 := ⟨⟨q502, q103, q500, q501, rfl⟩, by decide +kernel, by decide⟩
theorem ci_X0_70 : CIok RX0 70 yX10_init cX10_init 3 2 := ⟨⟨q511, q104, q509, q510, rfl⟩, by decide +kernel, by decide⟩
theorem ci_X0_73 : CIok RX0 73 yX5_init cX5_init 3 2 := ⟨⟨q465, q99, q518, q464, rfl⟩, by decide +kernel, by decide⟩
theorem cv_X0_74 : CVok RX0 74 RX1 yX1_many cX1_many 1 (some FieldType.int) 0 := ⟨lw_V q642 q448 q449 q83 q450, by decide +kernel, by decide⟩
theorem cs_X0_78 : CSok RX0 78 yX0_isIn cX0_isIn 2 (some FieldType.boolean) 2 := ⟨lw_S q643 q644 q82 q645, by decide +kernel, by decide⟩
theorem cv_X0_82 : CVok RX0 82 RX0 yX0_isPerson cX0_isPerson 2 (some FieldType.boolean) 1 := ⟨lw_V q638 q640 qs17 q82 q641, by decide +kernel, by decide⟩
theorem cs_X0_86 : CSok RX0 86 yX0_within cX0_within 3 (some FieldType.int) 3 := ⟨lw_S q230 q231 q82 q232, by decide +kernel, by decide⟩
theorem cv_X0_97 : CVok RX0 97 RX1 yX1_parts cX1_parts 2 none 1 := ⟨lw_V q551 q552 q553 q83 q554, by decide +kernel, by decide⟩
theorem cv_X0_100 : CVok RX0 100 RX1 yX1_joins cX1_joins 3 none 2 := ⟨lw_V q555 q556 q557 q83 q558, by decide +kernel, by decide⟩
theorem cv_X0_103 : CVok RX0 103 RX1 yX1_takes cX1_takes 3 none 1 := ⟨lw_V q242 q243 q244 q83 q245, by decide +kernel, by decide⟩
theorem cv_X0_112 : CVok RX0 112 RX3 yX3_all cX3_all 3 (some FieldType.int) 0 := ⟨lw_V q353 q354 q355 q94 q356, by decide +kernel, by decide⟩
theorem cv_X0_124 : CVok RX0 124 RX1 yX1_person cX1_person 2 (some (FieldType.object "PrayerMatsFace$Person")) 1 := ⟨lw_V q646 q255 q256 q83 q257, by decide +kernel, by decide⟩
theorem cu_X0_137_5 : CUok RX0 137 RX5 yX5_soft yX5_soft cX5_soft 1 (some FieldType.int) 0 := ⟨"PrayerMatsFace$Person", cX5_soft, 1, (some FieldType.int), lw_app (fun w hw => by
    simp only [List.mem_cons, List.not_mem_nil, or_false] at hw
    rcases hw with e | e | e | e | e
    · rw [e]; exact q647
    · rw [e]; exact q590
    · rw [e]; exact q589
    · rw [e]; exact q588
    · rw [e]; exact q99) (lw_meth q598), q588, q598, by decide +kernel, by decide⟩
theorem cu_X0_137_6 : CUok RX0 137 RX6 yX5_soft yX6_soft cX6_soft 1 (some FieldType.int) 0 := ⟨"PrayerMatsFace$Person", cX5_soft, 1, (some FieldType.int), lw_app (fun w hw => by
    simp only [List.mem_cons, List.not_mem_nil, or_false] at hw
    rcases hw with e | e | e | e | e
    · rw [e]; exact q647
    · rw [e]; exact q590
    · rw [e]; exact q608
    · rw [e]; exact q606
    · rw [e]; exact q100) (lw_meth q607), q588, q598, by decide +kernel, by decide⟩
theorem cu_X0_137_7 : CUok RX0 137 RX7 yX5_soft yX7_soft cX7_soft 1 (some FieldType.int) 0 := ⟨"PrayerMatsFace$Person", cX5_soft, 1, (some FieldType.int), lw_app (fun w hw => by
    simp only [List.mem_cons, List.not_mem_nil, or_false] at hw
    rcases hw with e | e | e | e | e
    · rw [e]; exact q647
    · rw [e]; exact q590
    · rw [e]; exact q599
    · rw [e]; exact q600
    · rw [e]; exact q101) (lw_meth q601), q588, q598, by decide +kernel, by decide⟩
theorem cu_X0_137_8 : CUok RX0 137 RX8 yX5_soft yX8_soft cX8_soft 1 (some FieldType.int) 0 := ⟨"PrayerMatsFace$Person", cX5_soft, 1, (some FieldType.int), lw_app (fun w hw => by
    simp only [List.mem_cons, List.not_mem_nil, or_false] at hw
    rcases hw with e | e | e | e | e
    · rw [e]; exact q647
    · rw [e]; exact q590
    · rw [e]; exact q609
    · rw [e]; exact q595
    · rw [e]; exact q102) (lw_meth q596), q588, q598, by decide +kernel, by decide⟩
theorem cu_X0_137_9 : CUok RX0 137 RX9 yX5_soft yX9_soft cX9_soft 1 (some FieldType.int) 0 := ⟨"PrayerMatsFace$Person", cX5_soft, 1, (some FieldType.int), lw_app (fun w hw => by
    simp only [List.mem_cons, List.not_mem_nil, or_false] at hw
    rcases hw with e | e | e | e | e
    · rw [e]; exact q647
    · rw [e]; exact q590
    · rw [e]; exact q602
    · rw [e]; exact q603
    · rw [e]; exact q103) (lw_meth q604), q588, q598, by decide +kernel, by decide⟩
theorem cu_X0_137_10 : CUok RX0 137 RX10 yX5_soft yX10_soft cX10_soft 1 (some FieldType.int) 0 := ⟨"PrayerMatsFace$Person", cX5_soft, 1, (some FieldType.int), lw_app (fun w hw => by
    simp only [List.mem_cons, List.not_mem_nil, or_false] at hw
    rcases hw with e | e | e | e | e
    · rw [e]; exact q647
    · rw [e]; exact q590
    · rw [e]; exact q591
    · rw [e]; exact q592
    · rw [e]; exact q104) (lw_meth q593), q588, q598, by decide +kernel, by decide⟩
theorem cv_X0_137 : CVok RX0 137 RX5 yX5_soft cX5_soft 1 (some FieldType.int) 0 := ⟨lw_V q647 q588 q589 q99 q598, by decide +kernel, by decide⟩
theorem cu_X0_140_5 : CUok RX0 140 RX5 yX5_sore yX5_sore cX5_sore 1 (some FieldType.int) 0 := ⟨"PrayerMatsFace$Person", cX5_sore, 1, (some FieldType.int), lw_app (fun w hw => by
    simp only [List.mem_cons, List.not_mem_nil, or_false] at hw
    rcases hw with e | e | e | e | e
    · rw [e]; exact q648
    · rw [e]; exact q614
    · rw [e]; exact q613
    · rw [e]; exact q612
    · rw [e]; exact q99) (lw_meth q628), q612, q628, by decide +kernel, by decide⟩
theorem cu_X0_140_6 : CUok RX0 140 RX6 yX5_sore yX6_sore cX6_sore 1 (some FieldType.int) 0 := ⟨"PrayerMatsFace$Person", cX5_sore, 1, (some FieldType.int), lw_app (fun w hw => by
    simp only [List.mem_cons, List.not_mem_nil, or_false] at hw
    rcases hw with e | e | e | e | e
    · rw [e]; exact q648
    · rw [e]; exact q614
    · rw [e]; exact q629
    · rw [e]; exact q625
    · rw [e]; exact q100) (lw_meth q626), q612, q628, by decide +kernel, by decide⟩
theorem cu_X0_140_7 : CUok RX0 140 RX7 yX5_sore yX7_sore cX7_sore 1 (some FieldType.int) 0 := ⟨"PrayerMatsFace$Person", cX5_sore, 1, (some FieldType.int), lw_app (fun w hw => by
    simp only [List.mem_cons, List.not_mem_nil, or_false] at hw
    rcases hw with e | e | e | e | e
    · rw [e]; exact q648
    · rw [e]; exact q614
    · rw [e]; exact q618
    · rw [e]; exact q619
    · rw [e]; exact q101) (lw_meth q620), q612, q628, by decide +kernel, by decide⟩
theorem cu_X0_140_8 : CUok RX0 140 RX8 yX5_sore yX8_sore cX8_sore 1 (some FieldType.int) 0 := ⟨"PrayerMatsFace$Person", cX5_sore, 1, (some FieldType.int), lw_app (fun w hw => by
    simp only [List.mem_cons, List.not_mem_nil, or_false] at hw
    rcases hw with e | e | e | e | e
    · rw [e]; exact q648
    · rw [e]; exact q614
    · rw [e]; exact q630
    · rw [e]; exact q616
    · rw [e]; exact q102) (lw_meth q617), q612, q628, by decide +kernel, by decide⟩
theorem cu_X0_140_9 : CUok RX0 140 RX9 yX5_sore yX9_sore cX9_sore 1 (some FieldType.int) 0 := ⟨"PrayerMatsFace$Person", cX5_sore, 1, (some FieldType.int), lw_app (fun w hw => by
    simp only [List.mem_cons, List.not_mem_nil, or_false] at hw
    rcases hw with e | e | e | e | e
    · rw [e]; exact q648
    · rw [e]; exact q614
    · rw [e]; exact q621
    · rw [e]; exact q622
    · rw [e]; exact q103) (lw_meth q623), q612, q628, by decide +kernel, by decide⟩
theorem cu_X0_140_10 : CUok RX0 140 RX10 yX5_sore yX8_sore cX8_sore 1 (some FieldType.int) 0 := ⟨"PrayerMatsFace$Person", cX5_sore, 1, (some FieldType.int), lw_app (fun w hw => by
    simp only [List.mem_cons, List.not_mem_nil, or_false] at hw
    rcases hw with e | e | e | e | e
    · rw [e]; exact q648
    · rw [e]; exact q614
    · rw [e]; exact q615
    · rw [e]; exact q616
    · rw [e]; exact q102) (lw_meth q617), q612, q628, by decide +kernel, by decide⟩
theorem cv_X0_140 : CVok RX0 140 RX5 yX5_sore cX5_sore 1 (some FieldType.int) 0 := ⟨lw_V q648 q612 q613 q99 q628, by decide +kernel, by decide⟩
theorem cu_X0_143_5 : CUok RX0 143 RX5 yX5_charm yX5_charm cX5_charm 1 (some FieldType.int) 0 := ⟨"PrayerMatsFace$Person", cX5_charm, 1, (some FieldType.int), lw_app (fun w hw => by
    simp only [List.mem_cons, List.not_mem_nil, or_false] at hw
    rcases hw with e | e | e | e | e
    · rw [e]; exact q649
    · rw [e]; exact q652
    · rw [e]; exact q651
    · rw [e]; exact q650
    · rw [e]; exact q99) (lw_meth q660), q650, q660, by decide +kernel, by decide⟩
theorem cu_X0_143_6 : CUok RX0 143 RX6 yX5_charm yX6_charm cX6_charm 1 (some FieldType.int) 0 := ⟨"PrayerMatsFace$Person", cX5_charm, 1, (some FieldType.int), lw_app (fun w hw => by
    simp only [List.mem_cons, List.not_mem_nil, or_false] at hw
    rcases hw with e | e | e | e | e
    · rw [e]; exact q649
    · rw [e]; exact q652
    · rw [e]; exact q668
    · rw [e]; exact q665
    · rw [e]; exact q100) (lw_meth q666), q650, q660, by decide +kernel, by decide⟩
theorem cu_X0_143_7 : CUok RX0 143 RX7 yX5_charm yX7_charm cX7_charm 1 (some FieldType.int) 0 := ⟨"PrayerMatsFace$Person", cX5_charm, 1, (some FieldType.int), lw_app (fun w hw => by
    simp only [List.mem_cons, List.not_mem_nil, or_false] at hw
    rcases hw with e | e | e | e | e
    · rw [e]; exact q649
    · rw [e]; exact q652
    · rw [e]; exact q656
    · rw [e]; exact q657
    · rw [e]; exact q101) (lw_meth q658), q650, q660, by decide +kernel, by decide⟩
theorem cu_X0_143_8 : CUok RX0 143 RX8 yX5_charm yX8_charm cX8_charm 1 (some FieldType.int) 0 := ⟨"PrayerMatsFace$Person", cX5_charm, 1, (some FieldType.int), lw_app (fun w hw => by
    simp only [List.mem_cons, List.not_mem_nil, or_false] at hw
    rcases hw with e | e | e | e | e
    · rw [e]; exact q649
    · rw [e]; exact q652
    · rw [e]; exact q669
    · rw [e]; exact q670
    · rw [e]; exact q102) (lw_meth q671), q650, q660, by decide +kernel, by decide⟩
theorem cu_X0_143_9 : CUok RX0 143 RX9 yX5_charm yX9_charm cX9_charm 1 (some FieldType.int) 0 := ⟨"PrayerMatsFace$Person", cX5_charm, 1, (some FieldType.int), lw_app (fun w hw => by
    simp only [List.mem_cons, List.not_mem_nil, or_false] at hw
    rcases hw with e | e | e | e | e
    · rw [e]; exact q649
    · rw [e]; exact q652
    · rw [e]; exact q661
    · rw [e]; exact q662
    · rw [e]; exact q103) (lw_meth q663), q650, q660, by decide +kernel, by decide⟩
theorem cu_X0_143_10 : CUok RX0 143 RX10 yX5_charm yX10_charm cX10_charm 1 (some FieldType.int) 0 := ⟨"PrayerMatsFace$Person", cX5_charm, 1, (some FieldType.int), lw_app (fun w hw => by
    simp only [List.mem_cons, List.not_mem_nil, or_false] at hw
    rcases hw with e | e | e | e | e
    · rw [e]; exact q649
    · rw [e]; exact q652
    · rw [e]; exact q653
    · rw [e]; exact q654
    · rw [e]; exact q104) (lw_meth q655), q650, q660, by decide +kernel, by decide⟩
theorem cv_X0_143 : CVok RX0 143 RX5 yX5_charm cX5_charm 1 (some FieldType.int) 0 := ⟨lw_V q649 q650 q651 q99 q660, by decide +kernel, by decide⟩
theorem cv_X0_146 : CVok RX0 146 RX0 yX0_areTwo cX0_areTwo 3 (some FieldType.boolean) 2 := ⟨lw_V q676 q678 qs18 q82 q679, by decide +kernel, by decide⟩
theorem cv_X0_149 : CVok RX0 149 RX1 yX1_between cX1_between 3 (some FieldType.int) 2 := ⟨lw_V q680 q584 q585 q83 q586, by decide +kernel, by decide⟩
theorem cv_X0_153 : CVok RX0 153 RX1 yX1_likes cX1_likes 3 (some FieldType.int) 2 := ⟨lw_V q681 q682 q683 q83 q684, by decide +kernel, by decide⟩
theorem cs_X0_156 : CSok RX0 156 yX0_personWith cX0_personWith 2 (some (FieldType.object "PrayerMatsFace$Person")) 2 := ⟨lw_S q693 q456 q82 q457, by decide +kernel, by decide⟩
theorem cv_X0_160 : CVok RX0 160 RX1 yX1_comes cX1_comes 5 none 2 := ⟨lw_V q694 q523 q524 q83 q525, by decide +kernel, by decide⟩
theorem cv_X0_164 : CVok RX0 164 RX0 yX0_remembers cX0_remembers 3 none 0 := ⟨lw_V q699 q701 qs19 q82 q702, by decide +kernel, by decide⟩
theorem cv_X0_167 : CVok RX0 167 RX1 yX1_quarrels cX1_quarrels 4 none 3 := ⟨lw_V q707 q528 q529 q83 q530, by decide +kernel, by decide⟩
theorem cs_X0_171 : CSok RX0 171 yX0_turnsMat cX0_turnsMat 3 none 3 := ⟨lw_S q712 q549 q82 q550, by decide +kernel, by decide⟩
theorem cv_X0_175 : CVok RX0 175 RX1 yX1_mats cX1_mats 3 (some FieldType.int) 0 := ⟨lw_V q713 q714 q715 q83 q716, by decide +kernel, by decide⟩
theorem cv_X0_181 : CVok RX0 181 RX1 yX1_goesOn cX1_goesOn 3 none 1 := ⟨lw_V q721 q565 q566 q83 q567, by decide +kernel, by decide⟩
theorem cv_X0_184 : CVok RX0 184 RX1 yX1_all cX1_all 4 (some FieldType.int) 0 := ⟨lw_V q722 q723 q724 q83 q725, by decide +kernel, by decide⟩
theorem cs_X0_185 : CSok RX0 185 yX0_wrongDays cX0_wrongDays 1 (some FieldType.int) 1 := ⟨lw_S q734 q735 q82 q736, by decide +kernel, by decide⟩
theorem cv_X0_188 : CVok RX0 188 RX0 yX0_goesOn cX0_goesOn 2 none 1 := ⟨lw_V q737 q739 qs20 q82 q740, by decide +kernel, by decide⟩
theorem cv_X0_189 : CVok RX0 189 RX1 yX1_mended cX1_mended 4 (some FieldType.int) 0 := ⟨lw_V q745 q746 q747 q83 q748, by decide +kernel, by decide⟩
theorem cs_X0_192 : CSok RX0 192 yX0_atLaw cX0_atLaw 5 (some FieldType.int) 1 := ⟨lw_S q749 q750 q82 q751, by decide +kernel, by decide⟩
theorem cv_X0_196 : CVok RX0 196 RX1 yX1_goes cX1_goes 2 none 0 := ⟨lw_V q760 q569 q570 q83 q571, by decide +kernel, by decide⟩
theorem cv_X0_199 : CVok RX0 199 RX0 yX0_whenMended cX0_whenMended 4 (some FieldType.int) 2 := ⟨lw_V q756 q758 qs21 q82 q759, by decide +kernel, by decide⟩
theorem cs_X0_202 : CSok RX0 202 yX0_told cX0_told 1 (some FieldType.int) 1 := ⟨lw_S q761 q762 q82 q763, by decide +kernel, by decide⟩
theorem cv_X0_205 : CVok RX0 205 RX0 yX0_refuseFar cX0_refuseFar 2 (some FieldType.int) 1 := ⟨lw_V q772 q774 qs22 q82 q775, by decide +kernel, by decide⟩
theorem cv_X0_208 : CVok RX0 208 RX1 yX1_isRid cX1_isRid 2 (some FieldType.boolean) 1 := ⟨lw_V q781 q782 q783 q83 q784, by decide +kernel, by decide⟩
theorem cv_X0_211 : CVok RX0 211 RX1 yX1_doLeave cX1_doLeave 3 (some FieldType.boolean) 2 := ⟨lw_V q786 q787 q788 q83 q789, by decide +kernel, by decide⟩
theorem cv_X0_220 : CVok RX0 220 RX1 yX1_isStable cX1_isStable 3 (some FieldType.boolean) 0 := ⟨lw_V q810 q811 q812 q83 q813, by decide +kernel, by decide⟩
theorem cv_X0_227 : CVok RX0 227 RX0 yX0_keepsPairing cX0_keepsPairing 1 none 0 := ⟨lw_V q816 q818 qs26 q82 q819, by decide +kernel, by decide⟩
theorem cv_X0_236 : CVok RX0 236 RX0 yX0_looksAt cX0_looksAt 2 none 1 := ⟨lw_V q806 q808 qs25 q82 q809, by decide +kernel, by decide⟩
theorem cs_X0_240 : CSok RX0 240 yX0_has cX0_has 2 (some FieldType.boolean) 2 := ⟨lw_S q821 q581 q82 q582, by decide +kernel, by decide⟩
theorem cv_X0_243 : CVok RX0 243 RX0 yX0_eachPairing cX0_eachPairing 6 none 2 := ⟨lw_V q802 q804 qs24 q82 q805, by decide +kernel, by decide⟩
theorem cv_X0_247 : CVok RX0 247 RX0 yX0_findsPairing cX0_findsPairing 3 none 1 := ⟨lw_V q798 q800 qs23 q82 q801, by decide +kernel, by decide⟩
theorem cv_X0_250 : CVok RX0 250 RX0 yX0_favourite cX0_favourite 4 (some FieldType.int) 1 := ⟨lw_V q834 q836 qs27 q82 q837, by decide +kernel, by decide⟩
theorem cv_X0_253 : CVok RX0 253 RX1 yX1_wouldRather cX1_wouldRather 3 (some FieldType.boolean) 2 := ⟨lw_V q838 q791 q792 q83 q793, by decide +kernel, by decide⟩
theorem cs_X0_256 : CSok RX0 256 yX0_bits cX0_bits 3 (some FieldType.int) 1 := ⟨lw_S q843 q686 q82 q687, by decide +kernel, by decide⟩
theorem cv_X0_259 : CVok RX0 259 RX1 yX1_allLikes cX1_allLikes 3 (some FieldType.int) 0 := ⟨lw_V q848 q849 q850 q83 q851, by decide +kernel, by decide⟩
theorem cv_X0_269 : CVok RX0 269 RJ2 yJ2_set cJ2_set 4 (some (FieldType.object "java/lang/Object")) 2 := ⟨lw_V q864 q865 q866 q86 q867, by decide +kernel, by decide⟩
theorem cv_X0_275 : CVok RX0 275 RX0 yX0_supposes cX0_supposes 5 none 3 := ⟨lw_V q860 q862 qs28 q82 q863, by decide +kernel, by decide⟩
theorem cv_X0_278 : CVok RX0 278 RX0 yX0_isQuarrelSo cX0_isQuarrelSo 4 (some FieldType.boolean) 2 := ⟨lw_V q868 q870 qs29 q82 q871, by decide +kernel, by decide⟩
theorem cs_X0_281 : CSok RX0 281 yJ6_max cJ6_max 2 (some FieldType.int) 2 := ⟨lw_S q879 q295 q91 q296, by decide +kernel, by decide⟩
theorem cs_X0_286 : CSok RX0 286 yX0_gains cX0_gains 4 (some FieldType.int) 3 := ⟨lw_S q876 q877 q82 q878, by decide +kernel, by decide⟩
theorem cs_X0_289 : CSok RX0 289 yX0_common cX0_common 10 (some FieldType.long) 2 := ⟨lw_S q899 q900 q82 q901, by decide +kernel, by decide⟩
theorem cv_X0_293 : CVok RX0 293 RX0 yX0_refuseWide cX0_refuseWide 2 (some FieldType.long) 1 := ⟨lw_V q884 q886 qs30 q82 q887, by decide +kernel, by decide⟩
theorem cv_X0_297 : CVok RX0 297 RX0 yX0_quarrelBy cX0_quarrelBy 6 (some FieldType.int) 4 := ⟨lw_V q889 q891 qs31 q82 q892, by decide +kernel, by decide⟩
theorem cs_X0_301 : CSok RX0 301 yX0_power cX0_power 6 (some FieldType.long) 2 := ⟨lw_S q893 q894 q82 q895, by decide +kernel, by decide⟩
theorem cs_X0_305 : CSok RX0 305 yX0_inLeast cX0_inLeast 5 (some FieldType.long) 3 := ⟨lw_S q896 q897 q82 q898, by decide +kernel, by decide⟩
theorem cv_X0_309 : CVok RX0 309 RX0 yX0_comingAt cX0_comingAt 4 (some FieldType.int) 1 := ⟨lw_V q906 q908 qs32 q82 q909, by decide +kernel, by decide⟩
theorem cv_X0_312 : CVok RX0 312 RX0 yX0_isWanted cX0_isWanted 3 (some FieldType.boolean) 1 := ⟨lw_V q926 q928 qs33 q82 q929, by decide +kernel, by decide⟩
theorem cs_X0_315 : CSok RX0 315 yJ6_min cJ6_min 2 (some FieldType.int) 2 := ⟨lw_S q934 q326 q91 q327, by decide +kernel, by decide⟩
theorem cs_X0_318 : CSok RX0 318 yX0_isPeaceful cX0_isPeaceful 2 (some FieldType.boolean) 1 := ⟨lw_S q947 q948 q82 q949, by decide +kernel, by decide⟩
theorem cv_X0_322 : CVok RX0 322 RX1 yX1_hour cX1_hour 3 none 1 := ⟨lw_V q962 q573 q574 q83 q575, by decide +kernel, by decide⟩
theorem cv_X0_325 : CVok RX0 325 RX0 yX0_allDoubled cX0_allDoubled 3 (some FieldType.int) 1 := ⟨lw_V q958 q960 qs34 q82 q961, by decide +kernel, by decide⟩
theorem cv_X0_328 : CVok RX0 328 RX0 yX0_clear cX0_clear 2 (some FieldType.int) 0 := ⟨lw_V q975 q968 q969 q82 q970, by decide +kernel, by decide⟩
theorem cv_X0_337 : CVok RX0 337 RX0 yX0_drawn cX0_drawn 2 (some FieldType.int) 1 := ⟨lw_V q980 q982 qs35 q82 q983, by decide +kernel, by decide⟩
theorem cv_X0_344 : CVok RX0 344 RX0 yX0_allComing cX0_allComing 3 (some FieldType.int) 0 := ⟨lw_V q999 q1001 qs36 q82 q1002, by decide +kernel, by decide⟩
theorem ci_X10_1 : CIok RX10 1 yX8_init cX8_init 3 2 := ⟨⟨q493, q102, q512, q492, rfl⟩, by decide +kernel, by decide⟩
theorem csu_X10_7 : CSUok RX10 7 yX8_soft cX8_soft 1 (some FieldType.int) 0 := ⟨lw_app (fun w hw => by
    simp only [List.mem_cons, List.not_mem_nil, or_false] at hw
    rcases hw with e | e | e | e | e
    · rw [e]; exact q594
    · rw [e]; exact q1507
    · rw [e]; exact q515
    · rw [e]; exact q595
    · rw [e]; exact q102) (lw_meth q596), by decide +kernel, by decide⟩
theorem ci_X7_1 : CIok RX7 1 yX5_init cX5_init 3 2 := ⟨⟨q465, q99, q485, q464, rfl⟩, by decide +kernel, by decide⟩
theorem csu_X7_7 : CSUok RX7 7 yX5_charm cX5_charm 1 (some FieldType.int) 0 := ⟨lw_app (fun w hw => by
    simp only [List.mem_cons, List.not_mem_nil, or_false] at hw
    rcases hw with e | e | e | e | e
    · rw [e]; exact q659
    · rw [e]; exact q652
    · rw [e]; exact q488
    · rw [e]; exact q650
    · rw [e]; exact q99) (lw_meth q660), by decide +kernel, by decide⟩
theorem cv_X7_7 : CVok RX7 7 RX5 yX5_charm cX5_charm 1 (some FieldType.int) 0 := ⟨lw_V q659 q650 q651 q99 q660, by decide +kernel, by decide⟩
theorem ci_X9_1 : CIok RX9 1 yX6_init cX6_init 3 2 := ⟨⟨q462, q100, q503, q461, rfl⟩, by decide +kernel, by decide⟩
theorem csu_X9_7 : CSUok RX9 7 yX6_soft cX6_soft 1 (some FieldType.int) 0 := ⟨lw_app (fun w hw => by
    simp only [List.mem_cons, List.not_mem_nil, or_false] at hw
    rcases hw with e | e | e | e | e
    · rw [e]; exact q605
    · rw [e]; exact q1508
    · rw [e]; exact q506
    · rw [e]; exact q606
    · rw [e]; exact q100) (lw_meth q607), by decide +kernel, by decide⟩
theorem csu_X9_11 : CSUok RX9 11 yX6_sore cX6_sore 1 (some FieldType.int) 0 := ⟨lw_app (fun w hw => by
    simp only [List.mem_cons, List.not_mem_nil, or_false] at hw
    rcases hw with e | e | e | e | e
    · rw [e]; exact q624
    · rw [e]; exact q1509
    · rw [e]; exact q506
    · rw [e]; exact q625
    · rw [e]; exact q100) (lw_meth q626), by decide +kernel, by decide⟩
theorem csu_X9_14 : CSUok RX9 14 yX6_charm cX6_charm 1 (some FieldType.int) 0 := ⟨lw_app (fun w hw => by
    simp only [List.mem_cons, List.not_mem_nil, or_false] at hw
    rcases hw with e | e | e | e | e
    · rw [e]; exact q664
    · rw [e]; exact q1510
    · rw [e]; exact q506
    · rw [e]; exact q665
    · rw [e]; exact q100) (lw_meth q666), by decide +kernel, by decide⟩
theorem ci_X6_1 : CIok RX6 1 yX5_init cX5_init 3 2 := ⟨⟨q465, q99, q463, q464, rfl⟩, by decide +kernel, by decide⟩
theorem csu_X6_13 : CSUok RX6 13 yX5_sore cX5_sore 1 (some FieldType.int) 0 := ⟨lw_app (fun w hw => by
    simp only [List.mem_cons, List.not_mem_nil, or_false] at hw
    rcases hw with e | e | e | e | e
    · rw [e]; exact q627
    · rw [e]; exact q614
    · rw [e]; exact q479
    · rw [e]; exact q612
    · rw [e]; exact q99) (lw_meth q628), by decide +kernel, by decide⟩
theorem cv_X6_13 : CVok RX6 13 RX5 yX5_sore cX5_sore 1 (some FieldType.int) 0 := ⟨lw_V q627 q612 q613 q99 q628, by decide +kernel, by decide⟩
theorem csu_X6_17 : CSUok RX6 17 yX5_charm cX5_charm 1 (some FieldType.int) 0 := ⟨lw_app (fun w hw => by
    simp only [List.mem_cons, List.not_mem_nil, or_false] at hw
    rcases hw with e | e | e | e | e
    · rw [e]; exact q667
    · rw [e]; exact q652
    · rw [e]; exact q479
    · rw [e]; exact q650
    · rw [e]; exact q99) (lw_meth q660), by decide +kernel, by decide⟩
theorem cv_X6_17 : CVok RX6 17 RX5 yX5_charm cX5_charm 1 (some FieldType.int) 0 := ⟨lw_V q667 q650 q651 q99 q660, by decide +kernel, by decide⟩
theorem ci_X5_1 : CIok RX5 1 yJ11_init cJ11_init 1 0 := ⟨⟨q112, q1511, q466, q111, rfl⟩, by decide +kernel, by decide⟩
theorem ci_X1_3 : CIok RX1 3 yJ11_init cJ11_init 1 0 := ⟨⟨q112, q1511, q118, q111, rfl⟩, by decide +kernel, by decide⟩
theorem ci_X1_11 : CIok RX1 11 yJ2_init cJ2_init 2 1 := ⟨⟨q123, q86, q121, q122, rfl⟩, by decide +kernel, by decide⟩
theorem cv_X1_30 : CVok RX1 30 RJ2 yJ2_clear cJ2_clear 4 none 0 := ⟨lw_V q246 q247 q248 q86 q249, by decide +kernel, by decide⟩
theorem cv_X1_33 : CVok RX1 33 RJ2 yJ2_size cJ2_size 1 (some FieldType.int) 0 := ⟨lw_V q250 q251 q252 q86 q253, by decide +kernel, by decide⟩
theorem cv_X1_37 : CVok RX1 37 RX1 yX1_person cX1_person 2 (some (FieldType.object "PrayerMatsFace$Person")) 1 := ⟨lw_V q254 q255 q256 q83 q257, by decide +kernel, by decide⟩
theorem cv_X1_41 : CVok RX1 41 RJ2 yJ2_add cJ2_add 2 (some FieldType.boolean) 1 := ⟨lw_V q273 q274 q275 q86 q276, by decide +kernel, by decide⟩
theorem cv_X1_55 : CVok RX1 55 RJ2 yJ2_get cJ2_get 2 (some (FieldType.object "java/lang/Object")) 1 := ⟨lw_V q258 q259 q260 q86 q261, by decide +kernel, by decide⟩
theorem cv_X1_61 : CVok RX1 61 RX1 yX1_many cX1_many 1 (some FieldType.int) 0 := ⟨lw_V q526 q448 q449 q83 q450, by decide +kernel, by decide⟩
theorem cv_X1_64 : CVok RX1 64 RX1 yX1_quarrels cX1_quarrels 4 none 3 := ⟨lw_V q527 q528 q529 q83 q530, by decide +kernel, by decide⟩
theorem cv_X1_68 : CVok RX1 68 RX1 yX1_parts cX1_parts 2 none 1 := ⟨lw_V q559 q552 q553 q83 q554, by decide +kernel, by decide⟩
theorem cv_X1_75 : CVok RX1 75 RX1 yX1_between cX1_between 3 (some FieldType.int) 2 := ⟨lw_V q583 q584 q585 q83 q586, by decide +kernel, by decide⟩
theorem cu_X1_79_5 : CUok RX1 79 RX5 yX5_soft yX5_soft cX5_soft 1 (some FieldType.int) 0 := ⟨"PrayerMatsFace$Person", cX5_soft, 1, (some FieldType.int), lw_app (fun w hw => by
    simp only [List.mem_cons, List.not_mem_nil, or_false] at hw
    rcases hw with e | e | e | e | e
    · rw [e]; exact q587
    · rw [e]; exact q590
    · rw [e]; exact q589
    · rw [e]; exact q588
    · rw [e]; exact q99) (lw_meth q598), q588, q598, by decide +kernel, by decide⟩
theorem cu_X1_79_6 : CUok RX1 79 RX6 yX5_soft yX6_soft cX6_soft 1 (some FieldType.int) 0 := ⟨"PrayerMatsFace$Person", cX5_soft, 1, (some FieldType.int), lw_app (fun w hw => by
    simp only [List.mem_cons, List.not_mem_nil, or_false] at hw
    rcases hw with e | e | e | e | e
    · rw [e]; exact q587
    · rw [e]; exact q590
    · rw [e]; exact q608
    · rw [e]; exact q606
    · rw [e]; exact q100) (lw_meth q607), q588, q598, by decide +kernel, by decide⟩
theorem cu_X1_79_7 : CUok RX1 79 RX7 yX5_soft yX7_soft cX7_soft 1 (some FieldType.int) 0 := ⟨"PrayerMatsFace$Person", cX5_soft, 1, (some FieldType.int), lw_app (fun w hw => by
    simp only [List.mem_cons, List.not_mem_nil, or_false] at hw
    rcases hw with e | e | e | e | e
    · rw [e]; exact q587
    · rw [e]; exact q590
    · rw [e]; exact q599
    · rw [e]; exact q600
    · rw [e]; exact q101) (lw_meth q601), q588, q598, by decide +kernel, by decide⟩
theorem cu_X1_79_8 : CUok RX1 79 RX8 yX5_soft yX8_soft cX8_soft 1 (some FieldType.int) 0 := ⟨"PrayerMatsFace$Person", cX5_soft, 1, (some FieldType.int), lw_app (fun w hw => by
    simp only [List.mem_cons, List.not_mem_nil, or_false] at hw
    rcases hw with e | e | e | e | e
    · rw [e]; exact q587
    · rw [e]; exact q590
    · rw [e]; exact q609
    · rw [e]; exact q595
    · rw [e]; exact q102) (lw_meth q596), q588, q598, by decide +kernel, by decide⟩
theorem cu_X1_79_9 : CUok RX1 79 RX9 yX5_soft yX9_soft cX9_soft 1 (some FieldType.int) 0 := ⟨"PrayerMatsFace$Person", cX5_soft, 1, (some FieldType.int), lw_app (fun w hw => by
    simp only [List.mem_cons, List.not_mem_nil, or_false] at hw
    rcases hw with e | e | e | e | e
    · rw [e]; exact q587
    · rw [e]; exact q590
    · rw [e]; exact q602
    · rw [e]; exact q603
    · rw [e]; exact q103) (lw_meth q604), q588, q598, by decide +kernel, by decide⟩
theorem cu_X1_79_10 : CUok RX1 79 RX10 yX5_soft yX10_soft cX10_soft 1 (some FieldType.int) 0 := ⟨"PrayerMatsFace$Person", cX5_soft, 1, (some FieldType.int), lw_app (fun w hw => by
    simp only [List.mem_cons, List.not_mem_nil, or_false] at hw
    rcases hw with e | e | e | e | e
    · rw [e]; exact q587
    · rw [e]; exact q590
    · rw [e]; exact q591
    · rw [e]; exact q592
    · rw [e]; exact q104) (lw_meth q593), q588, q598, by decide +kernel, by decide⟩
theorem cv_X1_79 : CVok RX1 79 RX5 yX5_soft cX5_soft 1 (some FieldType.int) 0 := ⟨lw_V q587 q588 q589 q99 q598, by decide +kernel, by decide⟩
theorem cs_X1_82 : CSok RX1 82 yJ6_max cJ6_max 2 (some FieldType.int) 2 := ⟨lw_S q610 q295 q91 q296, by decide +kernel, by decide⟩
theorem cu_X1_87_5 : CUok RX1 87 RX5 yX5_sore yX5_sore cX5_sore 1 (some FieldType.int) 0 := ⟨"PrayerMatsFace$Person", cX5_sore, 1, (some FieldType.int), lw_app (fun w hw => by
    simp only [List.mem_cons, List.not_mem_nil, or_false] at hw
    rcases hw with e | e | e | e | e
    · rw [e]; exact q611
    · rw [e]; exact q614
    · rw [e]; exact q613
    · rw [e]; exact q612
    · rw [e]; exact q99) (lw_meth q628), q612, q628, by decide +kernel, by decide⟩
theorem cu_X1_87_6 : CUok RX1 87 RX6 yX5_sore yX6_sore cX6_sore 1 (some FieldType.int) 0 := ⟨"PrayerMatsFace$Person", cX5_sore, 1, (some FieldType.int), lw_app (fun w hw => by
    simp only [List.mem_cons, List.not_mem_nil, or_false] at hw
    rcases hw with e | e | e | e | e
    · rw [e]; exact q611
    · rw [e]; exact q614
    · rw [e]; exact q629
    · rw [e]; exact q625
    · rw [e]; exact q100) (lw_meth q626), q612, q628, by decide +kernel, by decide⟩
theorem cu_X1_87_7 : CUok RX1 87 RX7 yX5_sore yX7_sore cX7_sore 1 (some FieldType.int) 0 := ⟨"PrayerMatsFace$Person", cX5_sore, 1, (some FieldType.int), lw_app (fun w hw => by
    simp only [List.mem_cons, List.not_mem_nil, or_false] at hw
    rcases hw with e | e | e | e | e
    · rw [e]; exact q611
    · rw [e]; exact q614
    · rw [e]; exact q618
    · rw [e]; exact q619
    · rw [e]; exact q101) (lw_meth q620), q612, q628, by decide +kernel, by decide⟩
theorem cu_X1_87_8 : CUok RX1 87 RX8 yX5_sore yX8_sore cX8_sore 1 (some FieldType.int) 0 := ⟨"PrayerMatsFace$Person", cX5_sore, 1, (some FieldType.int), lw_app (fun w hw => by
    simp only [List.mem_cons, List.not_mem_nil, or_false] at hw
    rcases hw with e | e | e | e | e
    · rw [e]; exact q611
    · rw [e]; exact q614
    · rw [e]; exact q630
    · rw [e]; exact q616
    · rw [e]; exact q102) (lw_meth q617), q612, q628, by decide +kernel, by decide⟩
theorem cu_X1_87_9 : CUok RX1 87 RX9 yX5_sore yX9_sore cX9_sore 1 (some FieldType.int) 0 := ⟨"PrayerMatsFace$Person", cX5_sore, 1, (some FieldType.int), lw_app (fun w hw => by
    simp only [List.mem_cons, List.not_mem_nil, or_false] at hw
    rcases hw with e | e | e | e | e
    · rw [e]; exact q611
    · rw [e]; exact q614
    · rw [e]; exact q621
    · rw [e]; exact q622
    · rw [e]; exact q103) (lw_meth q623), q612, q628, by decide +kernel, by decide⟩
theorem cu_X1_87_10 : CUok RX1 87 RX10 yX5_sore yX8_sore cX8_sore 1 (some FieldType.int) 0 := ⟨"PrayerMatsFace$Person", cX5_sore, 1, (some FieldType.int), lw_app (fun w hw => by
    simp only [List.mem_cons, List.not_mem_nil, or_false] at hw
    rcases hw with e | e | e | e | e
    · rw [e]; exact q611
    · rw [e]; exact q614
    · rw [e]; exact q615
    · rw [e]; exact q616
    · rw [e]; exact q102) (lw_meth q617), q612, q628, by decide +kernel, by decide⟩
theorem cv_X1_87 : CVok RX1 87 RX5 yX5_sore cX5_sore 1 (some FieldType.int) 0 := ⟨lw_V q611 q612 q613 q99 q628, by decide +kernel, by decide⟩
theorem cs_X1_90 : CSok RX1 90 yJ6_min cJ6_min 2 (some FieldType.int) 2 := ⟨lw_S q631 q326 q91 q327, by decide +kernel, by decide⟩
theorem cv_X1_93 : CVok RX1 93 RX1 yX1_kneel cX1_kneel 7 none 3 := ⟨lw_V q576 q578 qs16 q83 q579, by decide +kernel, by decide⟩
theorem cv_X1_96 : CVok RX1 96 RX1 yX1_hour cX1_hour 3 none 1 := ⟨lw_V q572 q573 q574 q83 q575, by decide +kernel, by decide⟩
theorem cv_X1_99 : CVok RX1 99 RX1 yX1_goes cX1_goes 2 none 0 := ⟨lw_V q568 q569 q570 q83 q571, by decide +kernel, by decide⟩
theorem cu_X1_106_5 : CUok RX1 106 RX5 yX5_charm yX5_charm cX5_charm 1 (some FieldType.int) 0 := ⟨"PrayerMatsFace$Person", cX5_charm, 1, (some FieldType.int), lw_app (fun w hw => by
    simp only [List.mem_cons, List.not_mem_nil, or_false] at hw
    rcases hw with e | e | e | e | e
    · rw [e]; exact q688
    · rw [e]; exact q652
    · rw [e]; exact q651
    · rw [e]; exact q650
    · rw [e]; exact q99) (lw_meth q660), q650, q660, by decide +kernel, by decide⟩
theorem cu_X1_106_6 : CUok RX1 106 RX6 yX5_charm yX6_charm cX6_charm 1 (some FieldType.int) 0 := ⟨"PrayerMatsFace$Person", cX5_charm, 1, (some FieldType.int), lw_app (fun w hw => by
    simp only [List.mem_cons, List.not_mem_nil, or_false] at hw
    rcases hw with e | e | e | e | e
    · rw [e]; exact q688
    · rw [e]; exact q652
    · rw [e]; exact q668
    · rw [e]; exact q665
    · rw [e]; exact q100) (lw_meth q666), q650, q660, by decide +kernel, by decide⟩
theorem cu_X1_106_7 : CUok RX1 106 RX7 yX5_charm yX7_charm cX7_charm 1 (some FieldType.int) 0 := ⟨"PrayerMatsFace$Person", cX5_charm, 1, (some FieldType.int), lw_app (fun w hw => by
    simp only [List.mem_cons, List.not_mem_nil, or_false] at hw
    rcases hw with e | e | e | e | e
    · rw [e]; exact q688
    · rw [e]; exact q652
    · rw [e]; exact q656
    · rw [e]; exact q657
    · rw [e]; exact q101) (lw_meth q658), q650, q660, by decide +kernel, by decide⟩
theorem cu_X1_106_8 : CUok RX1 106 RX8 yX5_charm yX8_charm cX8_charm 1 (some FieldType.int) 0 := ⟨"PrayerMatsFace$Person", cX5_charm, 1, (some FieldType.int), lw_app (fun w hw => by
    simp only [List.mem_cons, List.not_mem_nil, or_false] at hw
    rcases hw with e | e | e | e | e
    · rw [e]; exact q688
    · rw [e]; exact q652
    · rw [e]; exact q669
    · rw [e]; exact q670
    · rw [e]; exact q102) (lw_meth q671), q650, q660, by decide +kernel, by decide⟩
theorem cu_X1_106_9 : CUok RX1 106 RX9 yX5_charm yX9_charm cX9_charm 1 (some FieldType.int) 0 := ⟨"PrayerMatsFace$Person", cX5_charm, 1, (some FieldType.int), lw_app (fun w hw => by
    simp only [List.mem_cons, List.not_mem_nil, or_false] at hw
    rcases hw with e | e | e | e | e
    · rw [e]; exact q688
    · rw [e]; exact q652
    · rw [e]; exact q661
    · rw [e]; exact q662
    · rw [e]; exact q103) (lw_meth q663), q650, q660, by decide +kernel, by decide⟩
theorem cu_X1_106_10 : CUok RX1 106 RX10 yX5_charm yX10_charm cX10_charm 1 (some FieldType.int) 0 := ⟨"PrayerMatsFace$Person", cX5_charm, 1, (some FieldType.int), lw_app (fun w hw => by
    simp only [List.mem_cons, List.not_mem_nil, or_false] at hw
    rcases hw with e | e | e | e | e
    · rw [e]; exact q688
    · rw [e]; exact q652
    · rw [e]; exact q653
    · rw [e]; exact q654
    · rw [e]; exact q104) (lw_meth q655), q650, q660, by decide +kernel, by decide⟩
theorem cv_X1_106 : CVok RX1 106 RX5 yX5_charm cX5_charm 1 (some FieldType.int) 0 := ⟨lw_V q688 q650 q651 q99 q660, by decide +kernel, by decide⟩
theorem cv_X1_109 : CVok RX1 109 RX1 yX1_likes cX1_likes 3 (some FieldType.int) 2 := ⟨lw_V q785 q682 q683 q83 q684, by decide +kernel, by decide⟩
theorem cv_X1_112 : CVok RX1 112 RX1 yX1_wouldRather cX1_wouldRather 3 (some FieldType.boolean) 2 := ⟨lw_V q790 q791 q792 q83 q793, by decide +kernel, by decide⟩
theorem cv_X1_115 : CVok RX1 115 RX1 yX1_isRid cX1_isRid 2 (some FieldType.boolean) 1 := ⟨lw_V q814 q782 q783 q83 q784, by decide +kernel, by decide⟩
theorem cv_X1_119 : CVok RX1 119 RX1 yX1_doLeave cX1_doLeave 3 (some FieldType.boolean) 2 := ⟨lw_V q815 q787 q788 q83 q789, by decide +kernel, by decide⟩
theorem ci_X3_9 : CIok RX3 9 yJ11_init cJ11_init 1 0 := ⟨⟨q112, q1511, q338, q111, rfl⟩, by decide +kernel, by decide⟩
theorem cv_X3_29 : CVok RX3 29 RX3 yX3_here cX3_here 1 (some FieldType.int) 0 := ⟨lw_V q357 q359 qs4 q94 q360, by decide +kernel, by decide⟩
theorem cv_X3_37 : CVok RX3 37 RX3 yX3_digit cX3_digit 1 (some FieldType.int) 0 := ⟨lw_V q365 q367 qs6 q94 q368, by decide +kernel, by decide⟩
theorem cv_X3_47 : CVok RX3 47 RX1 yX1_many cX1_many 1 (some FieldType.int) 0 := ⟨lw_V q447 q448 q449 q83 q450, by decide +kernel, by decide⟩
theorem cv_X3_52 : CVok RX3 52 RX3 yX3_two cX3_two 2 (some FieldType.int) 0 := ⟨lw_V q439 q441 qs8 q94 q442, by decide +kernel, by decide⟩
theorem cv_X3_55 : CVok RX3 55 RX3 yX3_ends cX3_ends 1 none 0 := ⟨lw_V q443 q445 qs9 q94 q446, by decide +kernel, by decide⟩
theorem cv_X3_58 : CVok RX3 58 RX3 yX3_well cX3_well 2 (some FieldType.boolean) 1 := ⟨lw_V q451 q453 qs10 q94 q454, by decide +kernel, by decide⟩
theorem cv_X3_66 : CVok RX3 66 RX1 yX1_comes cX1_comes 5 none 2 := ⟨lw_V q522 q523 q524 q83 q525, by decide +kernel, by decide⟩
theorem cv_X3_73 : CVok RX3 73 RX3 yX3_areBoth cX3_areBoth 3 (some FieldType.boolean) 2 := ⟨lw_V q539 q541 qs13 q94 q542, by decide +kernel, by decide⟩
theorem cv_X3_77 : CVok RX3 77 RX1 yX1_quarrels cX1_quarrels 4 none 3 := ⟨lw_V q543 q528 q529 q83 q530, by decide +kernel, by decide⟩
theorem cv_X3_88 : CVok RX3 88 RX1 yX1_goesOn cX1_goesOn 3 none 1 := ⟨lw_V q564 q565 q566 q83 q567, by decide +kernel, by decide⟩
theorem cv_X3_92 : CVok RX3 92 RX3 yX3_person cX3_person 4 none 0 := ⟨lw_V q361 q363 qs5 q94 q364, by decide +kernel, by decide⟩
theorem cv_X3_95 : CVok RX3 95 RX3 yX3_hours cX3_hours 3 none 0 := ⟨lw_V q531 q533 qs11 q94 q534, by decide +kernel, by decide⟩
theorem cv_X3_97 : CVok RX3 97 RX3 yX3_quarrel cX3_quarrel 4 none 0 := ⟨lw_V q535 q537 qs12 q94 q538, by decide +kernel, by decide⟩
theorem cv_X3_100 : CVok RX3 100 RX3 yX3_mat cX3_mat 3 none 0 := ⟨lw_V q544 q546 qs14 q94 q547, by decide +kernel, by decide⟩
theorem cv_X3_103 : CVok RX3 103 RX3 yX3_days cX3_days 2 none 0 := ⟨lw_V q560 q562 qs15 q94 q563, by decide +kernel, by decide⟩
theorem ci_X3_108 : CIok RX3 108 yX4_init cX4_init 2 1 := ⟨⟨q412, q98, q633, q411, rfl⟩, by decide +kernel, by decide⟩
theorem ci_X4_1 : CIok RX4 1 yJ10_init cJ10_init 5 4 := ⟨⟨q415, q97, q413, q414, rfl⟩, by decide +kernel, by decide⟩
theorem ci_X8_1 : CIok RX8 1 yX5_init cX5_init 3 2 := ⟨⟨q465, q99, q494, q464, rfl⟩, by decide +kernel, by decide⟩
theorem csu_X8_7 : CSUok RX8 7 yX5_soft cX5_soft 1 (some FieldType.int) 0 := ⟨lw_app (fun w hw => by
    simp only [List.mem_cons, List.not_mem_nil, or_false] at hw
    rcases hw with e | e | e | e | e
    · rw [e]; exact q597
    · rw [e]; exact q590
    · rw [e]; exact q497
    · rw [e]; exact q588
    · rw [e]; exact q99) (lw_meth q598), by decide +kernel, by decide⟩
theorem cv_X8_7 : CVok RX8 7 RX5 yX5_soft cX5_soft 1 (some FieldType.int) 0 := ⟨lw_V q597 q588 q589 q99 q598, by decide +kernel, by decide⟩
theorem ci_X2_1 : CIok RX2 1 yJ11_init cJ11_init 1 0 := ⟨⟨q112, q1511, q1008, q111, rfl⟩, by decide +kernel, by decide⟩
theorem cs_X2_71 : CSok RX2 71 yX2_in cX2_in 6 (some FieldType.boolean) 3 := ⟨lw_S q1142 q1143 q87 q1144, by decide +kernel, by decide⟩
theorem cv_X2_75 : CVok RX2 75 RX2 yX2_isOne cX2_isOne 2 (some FieldType.boolean) 1 := ⟨lw_V q1169 q1171 qs48 q87 q1172, by decide +kernel, by decide⟩
theorem cv_X2_79 : CVok RX2 79 RX2 yX2_quarrelOf cX2_quarrelOf 3 (some FieldType.int) 2 := ⟨lw_V q1205 q1207 qs56 q87 q1208, by decide +kernel, by decide⟩
theorem cs_X2_83 : CSok RX2 83 yX2_onesOf cX2_onesOf 3 (some FieldType.int) 1 := ⟨lw_S q1256 q1257 q87 q1258, by decide +kernel, by decide⟩
theorem cv_X2_87 : CVok RX2 87 RX2 yX2_charmOf cX2_charmOf 2 (some FieldType.int) 1 := ⟨lw_V q1241 q1243 qs60 q87 q1244, by decide +kernel, by decide⟩
theorem cv_X2_90 : CVok RX2 90 RX2 yX2_likesOf cX2_likesOf 3 (some FieldType.int) 2 := ⟨lw_V q1252 q1254 qs61 q87 q1255, by decide +kernel, by decide⟩
theorem cs_X2_93 : CSok RX2 93 yX2_hasBit cX2_hasBit 2 (some FieldType.boolean) 2 := ⟨lw_S q1202 q1203 q87 q1204, by decide +kernel, by decide⟩
theorem cv_X2_97 : CVok RX2 97 RX2 yX2_softOf cX2_softOf 2 (some FieldType.int) 1 := ⟨lw_V q1209 q1211 qs57 q87 q1212, by decide +kernel, by decide⟩
theorem cv_X2_100 : CVok RX2 100 RX2 yX2_soreOf cX2_soreOf 2 (some FieldType.int) 1 := ⟨lw_V q1213 q1215 qs58 q87 q1216, by decide +kernel, by decide⟩
theorem cs_X2_103 : CSok RX2 103 yX2_held cX2_held 2 (some FieldType.int) 2 := ⟨lw_S q1217 q1218 q87 q1219, by decide +kernel, by decide⟩
theorem cv_X2_109 : CVok RX2 109 RX2 yX2_behindHour cX2_behindHour 9 (some FieldType.int) 5 := ⟨lw_V q1198 q1200 qs55 q87 q1201, by decide +kernel, by decide⟩
theorem cv_X2_113 : CVok RX2 113 RX2 yX2_setQuarrel cX2_setQuarrel 4 none 3 := ⟨lw_V q1165 q1167 qs47 q87 q1168, by decide +kernel, by decide⟩
theorem cv_X2_117 : CVok RX2 117 RX2 yX2_dayBy cX2_dayBy 8 none 2 := ⟨lw_V q1194 q1196 qs54 q87 q1197, by decide +kernel, by decide⟩
theorem cv_X2_121 : CVok RX2 121 RX2 yX2_leaveMat cX2_leaveMat 2 none 1 := ⟨lw_V q1181 q1183 qs51 q87 q1184, by decide +kernel, by decide⟩
theorem cv_X2_125 : CVok RX2 125 RX2 yX2_join cX2_join 3 none 2 := ⟨lw_V q1185 q1187 qs52 q87 q1188, by decide +kernel, by decide⟩
theorem cv_X2_128 : CVok RX2 128 RX2 yX2_refuse cX2_refuse 2 (some FieldType.int) 1 := ⟨lw_V q1113 q1115 qs37 q87 q1116, by decide +kernel, by decide⟩
theorem cv_X2_141 : CVok RX2 141 RX2 yX2_here cX2_here 1 (some FieldType.int) 0 := ⟨lw_V q1125 q1127 qs39 q87 q1128, by decide +kernel, by decide⟩
theorem cv_X2_149 : CVok RX2 149 RX2 yX2_readDigits cX2_readDigits 4 (some FieldType.int) 1 := ⟨lw_V q1136 q1138 qs41 q87 q1139, by decide +kernel, by decide⟩
theorem cs_X2_155 : CSok RX2 155 yX2_isLetter cX2_isLetter 1 (some FieldType.boolean) 1 := ⟨lw_S q1129 q1130 q87 q1131, by decide +kernel, by decide⟩
theorem cv_X2_158 : CVok RX2 158 RX2 yX2_readNumbers cX2_readNumbers 3 none 2 := ⟨lw_V q1132 q1134 qs40 q87 q1135, by decide +kernel, by decide⟩
theorem cv_X2_161 : CVok RX2 161 RX2 yX2_oneComes cX2_oneComes 5 none 3 := ⟨lw_V q1161 q1163 qs46 q87 q1164, by decide +kernel, by decide⟩
theorem cv_X2_164 : CVok RX2 164 RX2 yX2_areTwo cX2_areTwo 3 (some FieldType.boolean) 2 := ⟨lw_V q1173 q1175 qs49 q87 q1176, by decide +kernel, by decide⟩
theorem cv_X2_167 : CVok RX2 167 RX2 yX2_joinOrNot cX2_joinOrNot 3 none 2 := ⟨lw_V q1177 q1179 qs50 q87 q1180, by decide +kernel, by decide⟩
theorem cv_X2_172 : CVok RX2 172 RX2 yX2_goDays cX2_goDays 3 none 1 := ⟨lw_V q1190 q1192 qs53 q87 q1193, by decide +kernel, by decide⟩
theorem cv_X2_175 : CVok RX2 175 RX2 yX2_readStatement cX2_readStatement 3 none 0 := ⟨lw_V q1121 q1123 qs38 q87 q1124, by decide +kernel, by decide⟩
theorem cv_X2_178 : CVok RX2 178 RX2 yX2_think cX2_think 1 none 0 := ⟨lw_V q1145 q1147 qs42 q87 q1148, by decide +kernel, by decide⟩
theorem cv_X2_181 : CVok RX2 181 RX2 yX2_comesTold cX2_comesTold 6 (some FieldType.boolean) 1 := ⟨lw_V q1157 q1159 qs45 q87 q1160, by decide +kernel, by decide⟩
theorem cv_X2_184 : CVok RX2 184 RX2 yX2_again cX2_again 1 none 0 := ⟨lw_V q1220 q1222 qs59 q87 q1223, by decide +kernel, by decide⟩
theorem cv_X2_199 : CVok RX2 199 RX2 yX2_carry cX2_carry 2 (some FieldType.int) 1 := ⟨lw_V q1153 q1155 qs44 q87 q1156, by decide +kernel, by decide⟩
theorem cv_X2_202 : CVok RX2 202 RX2 yX2_carryAll cX2_carryAll 4 none 2 := ⟨lw_V q1149 q1151 qs43 q87 q1152, by decide +kernel, by decide⟩
theorem cs_X2_211 : CSok RX2 211 yX2_wrongBit cX2_wrongBit 3 (some FieldType.int) 3 := ⟨lw_S q1249 q1250 q87 q1251, by decide +kernel, by decide⟩
theorem cs_X2_217 : CSok RX2 217 yX2_wrongNumber cX2_wrongNumber 3 (some FieldType.int) 3 := ⟨lw_S q1268 q1269 q87 q1270, by decide +kernel, by decide⟩
theorem cv_X2_220 : CVok RX2 220 RX2 yX2_keepTurn cX2_keepTurn 2 none 0 := ⟨lw_V q1271 q1273 qs62 q87 q1274, by decide +kernel, by decide⟩
theorem cv_X2_223 : CVok RX2 223 RX2 yX2_matsOf cX2_matsOf 3 (some FieldType.int) 0 := ⟨lw_V q1283 q1285 qs63 q87 q1286, by decide +kernel, by decide⟩
theorem cv_X2_226 : CVok RX2 226 RX2 yX2_allOf cX2_allOf 4 (some FieldType.int) 0 := ⟨lw_V q1291 q1293 qs64 q87 q1294, by decide +kernel, by decide⟩
theorem cv_X2_229 : CVok RX2 229 RX2 yX2_zerosOf cX2_zerosOf 4 (some FieldType.int) 0 := ⟨lw_V q1303 q1305 qs65 q87 q1306, by decide +kernel, by decide⟩
theorem cv_X2_232 : CVok RX2 232 RX2 yX2_worstTwo cX2_worstTwo 5 (some FieldType.int) 0 := ⟨lw_V q1307 q1309 qs66 q87 q1310, by decide +kernel, by decide⟩
theorem cv_X2_235 : CVok RX2 235 RX2 yX2_zeroIn cX2_zeroIn 5 (some FieldType.int) 2 := ⟨lw_V q1315 q1317 qs67 q87 q1318, by decide +kernel, by decide⟩
theorem cv_X2_239 : CVok RX2 239 RX2 yX2_ratherThanMate cX2_ratherThanMate 3 (some FieldType.boolean) 2 := ⟨lw_V q1337 q1339 qs69 q87 q1340, by decide +kernel, by decide⟩
theorem cv_X2_242 : CVok RX2 242 RX2 yX2_wouldLeave cX2_wouldLeave 3 (some FieldType.boolean) 2 := ⟨lw_V q1333 q1335 qs68 q87 q1336, by decide +kernel, by decide⟩
theorem cv_X2_247 : CVok RX2 247 RX2 yX2_leavingTwos cX2_leavingTwos 4 (some FieldType.int) 0 := ⟨lw_V q1341 q1343 qs70 q87 q1344, by decide +kernel, by decide⟩
theorem cv_X2_250 : CVok RX2 250 RX2 yX2_ridBits cX2_ridBits 3 (some FieldType.int) 0 := ⟨lw_V q1345 q1347 qs71 q87 q1348, by decide +kernel, by decide⟩
theorem cv_X2_256 : CVok RX2 256 RX2 yX2_layTrial cX2_layTrial 9 (some FieldType.boolean) 2 := ⟨lw_V q1358 q1360 qs73 q87 q1361, by decide +kernel, by decide⟩
theorem cv_X2_261 : CVok RX2 261 RX2 yX2_layPairings cX2_layPairings 4 none 0 := ⟨lw_V q1354 q1356 qs72 q87 q1357, by decide +kernel, by decide⟩
theorem cv_X2_264 : CVok RX2 264 RX2 yX2_takePairing cX2_takePairing 3 none 1 := ⟨lw_V q1362 q1364 qs74 q87 q1365, by decide +kernel, by decide⟩
theorem cv_X2_267 : CVok RX2 267 RX2 yX2_mostLiked cX2_mostLiked 4 (some FieldType.int) 1 := ⟨lw_V q1378 q1380 qs75 q87 q1381, by decide +kernel, by decide⟩
theorem cv_X2_270 : CVok RX2 270 RX2 yX2_allLikes cX2_allLikes 3 (some FieldType.int) 0 := ⟨lw_V q1390 q1392 qs76 q87 q1393, by decide +kernel, by decide⟩
theorem cv_X2_276 : CVok RX2 276 RX2 yX2_isRow cX2_isRow 5 (some FieldType.boolean) 2 := ⟨lw_V q1402 q1404 qs77 q87 q1405, by decide +kernel, by decide⟩
theorem cs_X2_279 : CSok RX2 279 yX2_hasBy cX2_hasBy 4 (some FieldType.int) 3 := ⟨lw_S q1410 q1411 q87 q1412, by decide +kernel, by decide⟩
theorem cs_X2_282 : CSok RX2 282 yX2_divisor cX2_divisor 10 (some FieldType.long) 2 := ⟨lw_S q1421 q1422 q87 q1423, by decide +kernel, by decide⟩
theorem cs_X2_288 : CSok RX2 288 yX2_partOf cX2_partOf 7 (some FieldType.long) 3 := ⟨lw_S q1418 q1419 q87 q1420, by decide +kernel, by decide⟩
theorem cv_X2_292 : CVok RX2 292 RX2 yX2_comingAt cX2_comingAt 4 (some FieldType.int) 1 := ⟨lw_V q1428 q1430 qs78 q87 q1431, by decide +kernel, by decide⟩
theorem cv_X2_295 : CVok RX2 295 RX2 yX2_isPeace cX2_isPeace 3 (some FieldType.boolean) 0 := ⟨lw_V q1464 q1466 qs79 q87 q1467, by decide +kernel, by decide⟩
theorem cv_X2_307 : CVok RX2 307 RX2 yX2_drawBelow cX2_drawBelow 2 (some FieldType.int) 1 := ⟨lw_V q1493 q1495 qs80 q87 q1496, by decide +kernel, by decide⟩
theorem ci_J9_16 : CIok RJ9 16 yJ8_init_2 cJ8_init_2 5 4 := ⟨⟨q421, q95, q419, q420, rfl⟩, by decide +kernel, by decide⟩
theorem ci_J10_16 : CIok RJ10 16 yJ9_init cJ9_init 5 4 := ⟨⟨q418, q96, q416, q417, rfl⟩, by decide +kernel, by decide⟩
theorem ci_J8_1 : CIok RJ8 1 yJ11_init cJ11_init 1 0 := ⟨⟨q112, q1511, q396, q111, rfl⟩, by decide +kernel, by decide⟩
theorem ci_J0_1 : CIok RJ0 1 yJ11_init cJ11_init 1 0 := ⟨⟨q112, q1511, q130, q111, rfl⟩, by decide +kernel, by decide⟩
theorem ci_J1_1 : CIok RJ1 1 yJ0_init cJ0_init 1 0 := ⟨⟨q129, q84, q127, q128, rfl⟩, by decide +kernel, by decide⟩
theorem ci_J2_1 : CIok RJ2 1 yJ1_init cJ1_init 1 0 := ⟨⟨q126, q85, q124, q125, rfl⟩, by decide +kernel, by decide⟩
theorem cs_J2_66 : CSok RJ2 66 yJ7_copyOf cJ7_copyOf 2 (some (FieldType.array (FieldType.object "java/lang/Object"))) 2 := ⟨lw_S q301 q302 q92 q303, by decide +kernel, by decide⟩
theorem cv_J2_69 : CVok RJ2 69 RJ2 yJ2_grow_2 cJ2_grow_2 4 (some (FieldType.array (FieldType.object "java/lang/Object"))) 1 := ⟨lw_V q285 q287 qs3 q86 q288, by decide +kernel, by decide⟩
theorem cs_J2_73 : CSok RJ2 73 yJ5_newLength cJ5_newLength 4 (some FieldType.int) 3 := ⟨lw_S q291 q292 q90 q293, by decide +kernel, by decide⟩
theorem cs_J2_79 : CSok RJ2 79 yJ6_max cJ6_max 2 (some FieldType.int) 2 := ⟨lw_S q331 q295 q91 q296, by decide +kernel, by decide⟩
theorem cs_J2_118 : CSok RJ2 118 yJ3_checkIndex cJ3_checkIndex 2 (some FieldType.int) 2 := ⟨lw_S q262 q263 q88 q264, by decide +kernel, by decide⟩
theorem cv_J2_123 : CVok RJ2 123 RJ2 yJ2_elementData cJ2_elementData 2 (some (FieldType.object "java/lang/Object")) 1 := ⟨lw_V q268 q269 q270 q86 q271, by decide +kernel, by decide⟩
theorem cv_J2_129 : CVok RJ2 129 RJ2 yJ2_grow cJ2_grow 1 (some (FieldType.array (FieldType.object "java/lang/Object"))) 0 := ⟨lw_V q281 q283 qs2 q86 q284, by decide +kernel, by decide⟩
theorem cv_J2_131 : CVok RJ2 131 RJ2 yJ2_add_2 cJ2_add_2 4 none 3 := ⟨lw_V q277 q279 qs1 q86 q280, by decide +kernel, by decide⟩
theorem cs_J7_300 : CSok RJ7 300 yJ7_copyOf_2 cJ7_copyOf_2 4 (some (FieldType.array (FieldType.object "java/lang/Object"))) 3 := ⟨lw_S q320 q321 q92 q322, by decide +kernel, by decide⟩
theorem cs_J7_304 : CSok RJ7 304 yJ6_min cJ6_min 2 (some FieldType.int) 2 := ⟨lw_S q325 q326 q91 q327, by decide +kernel, by decide⟩
theorem cs_J3_105 : CSok RJ3 105 yJ4_checkIndex cJ4_checkIndex 3 (some FieldType.int) 3 := ⟨lw_S q265 q266 q89 q267, by decide +kernel, by decide⟩
theorem cs_J5_194 : CSok RJ5 194 yJ6_max cJ6_max 2 (some FieldType.int) 2 := ⟨lw_S q294 q295 q91 q296, by decide +kernel, by decide⟩
theorem cs_J5_201 : CSok RJ5 201 yJ5_hugeLength cJ5_hugeLength 3 (some FieldType.int) 2 := ⟨lw_S q298 q299 q90 q300, by decide +kernel, by decide⟩
theorem cin_X0_109 : CINok RX0 109 yX3_init "PrayerMatsFace" cX3_init 2 1 := ⟨⟨q337, q94, q335, q336, rfl⟩, by decide +kernel, by decide⟩
theorem cin_X0_15 : CINok RX0 15 yX1_init "PrayerMatsFace" cX1_init 1 0 := ⟨⟨q117, q83, q115, q116, rfl⟩, by decide +kernel, by decide⟩
theorem csn_X1_102 : CSNok RX1 102 yX0_bits "PrayerMatsFace" cX0_bits 3 (some FieldType.int) 1 := ⟨⟨q687, q82, q685, q686⟩, by decide +kernel, by decide⟩
theorem csn_X1_71 : CSNok RX1 71 yX0_has "PrayerMatsFace" cX0_has 2 (some FieldType.boolean) 2 := ⟨⟨q582, q82, q580, q581⟩, by decide +kernel, by decide⟩
theorem csn_X3_33 : CSNok RX3 33 yX0_asks "PrayerMatsFace" cX0_asks 2 none 2 := ⟨⟨q371, q82, q369, q370⟩, by decide +kernel, by decide⟩
theorem csn_X3_62 : CSNok RX3 62 yX0_personWith "PrayerMatsFace" cX0_personWith 2 (some (FieldType.object "PrayerMatsFace$Person")) 2 := ⟨⟨q457, q82, q455, q456⟩, by decide +kernel, by decide⟩
theorem csn_X3_81 : CSNok RX3 81 yX0_turnsMat "PrayerMatsFace" cX0_turnsMat 3 none 3 := ⟨⟨q550, q82, q548, q549⟩, by decide +kernel, by decide⟩
