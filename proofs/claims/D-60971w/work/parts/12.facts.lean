/-! facts of the pools -/
set_option maxRecDepth 100000 in
theorem pk_int : xpk 0 .int := ⟨by decide, rfl, q493, (fun C h => by cases h), by decide⟩
set_option maxRecDepth 100000 in
theorem fdX2_9 : xFd RX2 9 2 0 (.array .int) false := ⟨_, _, _, by decide, rfl, by decide, in_X2, q529, rfl, tyX2_ok, nmX2, rfl, by decide⟩
set_option maxRecDepth 100000 in
theorem fdX2_15 : xFd RX2 15 2 1 (.array .int) false := ⟨_, _, _, by decide, rfl, by decide, in_X2, q531, rfl, tyX2_ok, nmX2, rfl, by decide⟩
set_option maxRecDepth 100000 in
theorem fdX2_18 : xFd RX2 18 2 2 (.array .int) false := ⟨_, _, _, by decide, rfl, by decide, in_X2, q533, rfl, tyX2_ok, nmX2, rfl, by decide⟩
set_option maxRecDepth 100000 in
theorem fdX2_21 : xFd RX2 21 2 3 (.array .int) false := ⟨_, _, _, by decide, rfl, by decide, in_X2, q536, rfl, tyX2_ok, nmX2, rfl, by decide⟩
set_option maxRecDepth 100000 in
theorem fdX2_24 : xFd RX2 24 2 4 (.array .int) false := ⟨_, _, _, by decide, rfl, by decide, in_X2, q538, rfl, tyX2_ok, nmX2, rfl, by decide⟩
set_option maxRecDepth 100000 in
theorem pk_double : xpk 2 .double := ⟨by decide, rfl, q528, (fun C h => by cases h), by decide⟩
set_option maxRecDepth 100000 in
theorem fdX2_27 : xFd RX2 27 2 6 (.array .double) false := ⟨_, _, _, by decide, rfl, by decide, in_X2, q542, rfl, tyX2_ok, nmX2, rfl, by decide⟩
set_option maxRecDepth 100000 in
theorem pk_byte : xpk 3 .byte := ⟨by decide, rfl, q492, (fun C h => by cases h), by decide⟩
set_option maxRecDepth 100000 in
theorem fdX2_31 : xFd RX2 31 2 8 (.array .byte) true := ⟨_, _, _, by decide, rfl, by decide, in_X2, q545, rfl, tyX2_ok, nmX2, rfl, by decide⟩
set_option maxRecDepth 100000 in
theorem owX2_init_8 : xOwn YX2_init 2 8 := ⟨rfl, _, _, rfl, rfl⟩
set_option maxRecDepth 100000 in
theorem cdX2_35 : xCd RX2 35 28 3 := ⟨_, _, _, by decide, rfl, in_J2, tyJ2_ok, q500, q501, q382⟩
set_option maxRecDepth 100000 in
theorem pnJ2 : plainName RJ2 = true := by decide +kernel
set_option maxRecDepth 100000 in
theorem mhJ2 : RJ2 ≠ "java/lang/invoke/MethodHandle" ∧ RJ2 ≠ "java/lang/invoke/VarHandle" := by decide +kernel
set_option maxRecDepth 100000 in
theorem pd0 : (parseMethodDescriptor "(I)V").map (fun s => s.parameters.length) = some 1 := by decide +kernel
set_option maxRecDepth 100000 in
theorem miJ2_init : xMi YJ2_init 1 := ⟨⟨q504, plainFor_of_name pnJ2, mhJ2, pd0⟩, q503, rfl, rfl, rfl⟩
set_option maxRecDepth 100000 in
theorem fdX2_40 : xFd RX2 40 2 10 (.object "java/util/ArrayList") true := ⟨_, _, _, by decide, rfl, by decide, in_X2, q549, rfl, tyX2_ok, nmX2, rfl, by decide⟩
set_option maxRecDepth 100000 in
theorem owX2_init_10 : xOwn YX2_init 2 10 := ⟨rfl, _, _, rfl, rfl⟩
set_option maxRecDepth 100000 in
theorem fdX2_44 : xFd RX2 44 2 11 (.object "java/util/ArrayList") true := ⟨_, _, _, by decide, rfl, by decide, in_X2, q553, rfl, tyX2_ok, nmX2, rfl, by decide⟩
set_option maxRecDepth 100000 in
theorem owX2_init_11 : xOwn YX2_init 2 11 := ⟨rfl, _, _, rfl, rfl⟩
set_option maxRecDepth 100000 in
theorem fdX2_47 : xFd RX2 47 2 12 (.array .int) false := ⟨_, _, _, by decide, rfl, by decide, in_X2, q556, rfl, tyX2_ok, nmX2, rfl, by decide⟩
set_option maxRecDepth 100000 in
theorem fdX2_50 : xFd RX2 50 2 13 (.array .int) false := ⟨_, _, _, by decide, rfl, by decide, in_X2, q558, rfl, tyX2_ok, nmX2, rfl, by decide⟩
set_option maxRecDepth 100000 in
theorem fdX2_53 : xFd RX2 53 2 15 (.array .int) false := ⟨_, _, _, by decide, rfl, by decide, in_X2, q562, rfl, tyX2_ok, nmX2, rfl, by decide⟩
set_option maxRecDepth 100000 in
theorem fdX2_56 : xFd RX2 56 2 5 (.int) false := ⟨_, _, _, by decide, rfl, by decide, in_X2, q540, rfl, tyX2_ok, nmX2, rfl, by decide⟩
set_option maxRecDepth 100000 in
theorem fdX2_60 : xFd RX2 60 2 7 (.int) false := ⟨_, _, _, by decide, rfl, by decide, in_X2, q544, rfl, tyX2_ok, nmX2, rfl, by decide⟩
set_option maxRecDepth 100000 in
theorem fdX2_63 : xFd RX2 63 2 9 (.int) false := ⟨_, _, _, by decide, rfl, by decide, in_X2, q547, rfl, tyX2_ok, nmX2, rfl, by decide⟩
set_option maxRecDepth 100000 in
theorem fdX2_66 : xFd RX2 66 2 14 (.int) false := ⟨_, _, _, by decide, rfl, by decide, in_X2, q560, rfl, tyX2_ok, nmX2, rfl, by decide⟩
set_option maxRecDepth 100000 in
theorem fdX2_69 : xFd RX2 69 2 16 (.int) false := ⟨_, _, _, by decide, rfl, by decide, in_X2, q565, rfl, tyX2_ok, nmX2, rfl, by decide⟩
set_option maxRecDepth 100000 in
theorem pd1 : (parseMethodDescriptor "()V").map (fun s => s.parameters.length) = some 0 := by decide +kernel
set_option maxRecDepth 100000 in
theorem mvJ2_clear : xMv YJ2_clear 28 0 := ⟨_, _, _, by decide, rfl, ⟨q1490, plainFor_of_name pnJ2, mhJ2, pd1⟩, q1488, q1489⟩
set_option maxRecDepth 100000 in
theorem pnX2 : plainName RX2 = true := by decide +kernel
set_option maxRecDepth 100000 in
theorem mhX2 : RX2 ≠ "java/lang/invoke/MethodHandle" ∧ RX2 ≠ "java/lang/invoke/VarHandle" := by decide +kernel
set_option maxRecDepth 100000 in
theorem pd2 : (parseMethodDescriptor "([I)[I").map (fun s => s.parameters.length) = some 1 := by decide +kernel
set_option maxRecDepth 100000 in
theorem msX2_longer : xMs YX2_longer 1 := ⟨⟨q2204, plainFor_of_name pnX2, mhX2, pd2⟩, q2203, q379⟩
set_option maxRecDepth 100000 in
theorem pnJ5 : plainName RJ5 = true := by decide +kernel
set_option maxRecDepth 100000 in
theorem mhJ5 : RJ5 ≠ "java/lang/invoke/MethodHandle" ∧ RJ5 ≠ "java/lang/invoke/VarHandle" := by decide +kernel
set_option maxRecDepth 100000 in
theorem pd3 : (parseMethodDescriptor "()I").map (fun s => s.parameters.length) = some 0 := by decide +kernel
set_option maxRecDepth 100000 in
theorem mvJ5_length : xMv YJ5_length 30 0 := ⟨_, _, _, by decide, rfl, ⟨q783, plainFor_of_name pnJ5, mhJ5, pd3⟩, q781, q782⟩
set_option maxRecDepth 100000 in
theorem pd4 : (parseMethodDescriptor "(I)C").map (fun s => s.parameters.length) = some 1 := by decide +kernel
set_option maxRecDepth 100000 in
theorem mvJ5_charAt : xMv YJ5_charAt 30 1 := ⟨_, _, _, by decide, rfl, ⟨q792, plainFor_of_name pnJ5, mhJ5, pd4⟩, q790, q791⟩
set_option maxRecDepth 100000 in
theorem fdX19_9 : xFd RX19 9 19 7 (.array .int) false := ⟨_, _, _, by decide, rfl, by decide, in_X19, q2337, rfl, tyX19_ok, nmX19, rfl, by decide⟩
set_option maxRecDepth 100000 in
theorem fdX19_15 : xFd RX19 15 19 8 (.array .int) false := ⟨_, _, _, by decide, rfl, by decide, in_X19, q2338, rfl, tyX19_ok, nmX19, rfl, by decide⟩
set_option maxRecDepth 100000 in
theorem fdX19_18 : xFd RX19 18 19 0 (.object "PascalHouse$Part") true := ⟨_, _, _, by decide, rfl, by decide, in_X19, q2324, rfl, tyX19_ok, nmX19, rfl, by decide⟩
set_option maxRecDepth 100000 in
theorem owX19_init_0 : xOwn YX19_init 19 0 := ⟨rfl, _, _, rfl, rfl⟩
set_option maxRecDepth 100000 in
theorem fdX19_22 : xFd RX19 22 19 1 (.int) true := ⟨_, _, _, by decide, rfl, by decide, in_X19, q2326, rfl, tyX19_ok, nmX19, rfl, by decide⟩
set_option maxRecDepth 100000 in
theorem owX19_init_1 : xOwn YX19_init 19 1 := ⟨rfl, _, _, rfl, rfl⟩
set_option maxRecDepth 100000 in
theorem fdX19_26 : xFd RX19 26 19 2 (.int) true := ⟨_, _, _, by decide, rfl, by decide, in_X19, q2328, rfl, tyX19_ok, nmX19, rfl, by decide⟩
set_option maxRecDepth 100000 in
theorem owX19_init_2 : xOwn YX19_init 19 2 := ⟨rfl, _, _, rfl, rfl⟩
set_option maxRecDepth 100000 in
theorem pnX19 : plainName RX19 = true := by decide +kernel
set_option maxRecDepth 100000 in
theorem mhX19 : RX19 ≠ "java/lang/invoke/MethodHandle" ∧ RX19 ≠ "java/lang/invoke/VarHandle" := by decide +kernel
set_option maxRecDepth 100000 in
theorem pd5 : (parseMethodDescriptor "(J)I").map (fun s => s.parameters.length) = some 1 := by decide +kernel
set_option maxRecDepth 100000 in
theorem mvX19_placeOf : xMv YX19_placeOf 19 1 := ⟨_, _, _, by decide, rfl, ⟨q2408, plainFor_of_name pnX19, mhX19, pd5⟩, q2407, qs85⟩
set_option maxRecDepth 100000 in
theorem fdX19_33 : xFd RX19 33 19 9 (.int) false := ⟨_, _, _, by decide, rfl, by decide, in_X19, q2339, rfl, tyX19_ok, nmX19, rfl, by decide⟩
set_option maxRecDepth 100000 in
theorem fdX11_9 : xFd RX11 9 11 1 (.array .int) true := ⟨_, _, _, by decide, rfl, by decide, in_X11, q1240, rfl, tyX11_ok, nmX11, rfl, by decide⟩
set_option maxRecDepth 100000 in
theorem owX11_init_1 : xOwn YX11_init 11 1 := ⟨rfl, _, _, rfl, rfl⟩
set_option maxRecDepth 100000 in
theorem fdX11_15 : xFd RX11 15 11 2 (.array .int) true := ⟨_, _, _, by decide, rfl, by decide, in_X11, q1243, rfl, tyX11_ok, nmX11, rfl, by decide⟩
set_option maxRecDepth 100000 in
theorem owX11_init_2 : xOwn YX11_init 11 2 := ⟨rfl, _, _, rfl, rfl⟩
set_option maxRecDepth 100000 in
theorem fdX11_18 : xFd RX11 18 11 3 (.array .int) true := ⟨_, _, _, by decide, rfl, by decide, in_X11, q1245, rfl, tyX11_ok, nmX11, rfl, by decide⟩
set_option maxRecDepth 100000 in
theorem owX11_init_3 : xOwn YX11_init 11 3 := ⟨rfl, _, _, rfl, rfl⟩
set_option maxRecDepth 100000 in
theorem fdX11_21 : xFd RX11 21 11 4 (.array .int) true := ⟨_, _, _, by decide, rfl, by decide, in_X11, q1246, rfl, tyX11_ok, nmX11, rfl, by decide⟩
set_option maxRecDepth 100000 in
theorem owX11_init_4 : xOwn YX11_init 11 4 := ⟨rfl, _, _, rfl, rfl⟩
set_option maxRecDepth 100000 in
theorem fdX11_24 : xFd RX11 24 11 5 (.array .int) true := ⟨_, _, _, by decide, rfl, by decide, in_X11, q1248, rfl, tyX11_ok, nmX11, rfl, by decide⟩
set_option maxRecDepth 100000 in
theorem owX11_init_5 : xOwn YX11_init 11 5 := ⟨rfl, _, _, rfl, rfl⟩
set_option maxRecDepth 100000 in
theorem fdX11_27 : xFd RX11 27 11 6 (.array .int) true := ⟨_, _, _, by decide, rfl, by decide, in_X11, q1249, rfl, tyX11_ok, nmX11, rfl, by decide⟩
set_option maxRecDepth 100000 in
theorem owX11_init_6 : xOwn YX11_init 11 6 := ⟨rfl, _, _, rfl, rfl⟩
set_option maxRecDepth 100000 in
theorem pk_boolean : xpk 4 .boolean := ⟨by decide, rfl, q1231, (fun C h => by cases h), by decide⟩
set_option maxRecDepth 100000 in
theorem fdX11_30 : xFd RX11 30 11 7 (.array .boolean) true := ⟨_, _, _, by decide, rfl, by decide, in_X11, q1251, rfl, tyX11_ok, nmX11, rfl, by decide⟩
set_option maxRecDepth 100000 in
theorem owX11_init_7 : xOwn YX11_init 11 7 := ⟨rfl, _, _, rfl, rfl⟩
set_option maxRecDepth 100000 in
theorem fdX11_34 : xFd RX11 34 11 8 (.array .boolean) true := ⟨_, _, _, by decide, rfl, by decide, in_X11, q1252, rfl, tyX11_ok, nmX11, rfl, by decide⟩
set_option maxRecDepth 100000 in
theorem owX11_init_8 : xOwn YX11_init 11 8 := ⟨rfl, _, _, rfl, rfl⟩
set_option maxRecDepth 100000 in
theorem fdX11_38 : xFd RX11 38 11 9 (.array .int) true := ⟨_, _, _, by decide, rfl, by decide, in_X11, q1255, rfl, tyX11_ok, nmX11, rfl, by decide⟩
set_option maxRecDepth 100000 in
theorem owX11_init_9 : xOwn YX11_init 11 9 := ⟨rfl, _, _, rfl, rfl⟩
set_option maxRecDepth 100000 in
theorem pk_long : xpk 1 .long := ⟨by decide, rfl, q1230, (fun C h => by cases h), by decide⟩
set_option maxRecDepth 100000 in
theorem fdX11_41 : xFd RX11 41 11 10 (.array .long) true := ⟨_, _, _, by decide, rfl, by decide, in_X11, q1257, rfl, tyX11_ok, nmX11, rfl, by decide⟩
set_option maxRecDepth 100000 in
theorem owX11_init_10 : xOwn YX11_init 11 10 := ⟨rfl, _, _, rfl, rfl⟩
set_option maxRecDepth 100000 in
theorem fdX11_45 : xFd RX11 45 11 11 (.array .long) true := ⟨_, _, _, by decide, rfl, by decide, in_X11, q1259, rfl, tyX11_ok, nmX11, rfl, by decide⟩
set_option maxRecDepth 100000 in
theorem owX11_init_11 : xOwn YX11_init 11 11 := ⟨rfl, _, _, rfl, rfl⟩
set_option maxRecDepth 100000 in
theorem fdX11_48 : xFd RX11 48 11 12 (.array .double) true := ⟨_, _, _, by decide, rfl, by decide, in_X11, q1260, rfl, tyX11_ok, nmX11, rfl, by decide⟩
set_option maxRecDepth 100000 in
theorem owX11_init_12 : xOwn YX11_init 11 12 := ⟨rfl, _, _, rfl, rfl⟩
set_option maxRecDepth 100000 in
theorem fdX11_52 : xFd RX11 52 11 13 (.array .boolean) true := ⟨_, _, _, by decide, rfl, by decide, in_X11, q1261, rfl, tyX11_ok, nmX11, rfl, by decide⟩
set_option maxRecDepth 100000 in
theorem owX11_init_13 : xOwn YX11_init 11 13 := ⟨rfl, _, _, rfl, rfl⟩
set_option maxRecDepth 100000 in
theorem fdX11_55 : xFd RX11 55 11 0 (.object "PascalHouse$Memory") true := ⟨_, _, _, by decide, rfl, by decide, in_X11, q1239, rfl, tyX11_ok, nmX11, rfl, by decide⟩
set_option maxRecDepth 100000 in
theorem owX11_init_0 : xOwn YX11_init 11 0 := ⟨rfl, _, _, rfl, rfl⟩
set_option maxRecDepth 100000 in
theorem fdX11_59 : xFd RX11 59 11 14 (.int) false := ⟨_, _, _, by decide, rfl, by decide, in_X11, q1262, rfl, tyX11_ok, nmX11, rfl, by decide⟩
set_option maxRecDepth 100000 in
theorem fdX11_63 : xFd RX11 63 11 15 (.int) false := ⟨_, _, _, by decide, rfl, by decide, in_X11, q1263, rfl, tyX11_ok, nmX11, rfl, by decide⟩
set_option maxRecDepth 100000 in
theorem pnX6 : plainName RX6 = true := by decide +kernel
set_option maxRecDepth 100000 in
theorem mhX6 : RX6 ≠ "java/lang/invoke/MethodHandle" ∧ RX6 ≠ "java/lang/invoke/VarHandle" := by decide +kernel
set_option maxRecDepth 100000 in
theorem pd6 : (parseMethodDescriptor "()Z").map (fun s => s.parameters.length) = some 0 := by decide +kernel
set_option maxRecDepth 100000 in
theorem mvX6_isText : xMv YX6_isText 6 0 := ⟨_, _, _, by decide, rfl, ⟨q2640, plainFor_of_name pnX6, mhX6, pd6⟩, q2638, q2639⟩
set_option maxRecDepth 100000 in
theorem gfX11_71 : xFn RX11 71 6 2 (.object "PascalHouse$Type") false := ⟨_, _, _, _, by decide, rfl, by decide, in_X6, List.mem_filter.mpr ⟨q700, rfl⟩, rfl, tyX6_ok, nmX6, rfl, by decide⟩
set_option maxRecDepth 100000 in
theorem gfX11_75 : xFn RX11 75 6 7 (.int) false := ⟨_, _, _, _, by decide, rfl, by decide, in_X6, List.mem_filter.mpr ⟨q711, rfl⟩, rfl, tyX6_ok, nmX6, rfl, by decide⟩
set_option maxRecDepth 100000 in
theorem pnX11 : plainName RX11 = true := by decide +kernel
set_option maxRecDepth 100000 in
theorem mhX11 : RX11 ≠ "java/lang/invoke/MethodHandle" ∧ RX11 ≠ "java/lang/invoke/VarHandle" := by decide +kernel
set_option maxRecDepth 100000 in
theorem pd7 : (parseMethodDescriptor "(I)I").map (fun s => s.parameters.length) = some 1 := by decide +kernel
set_option maxRecDepth 100000 in
theorem mvX11_node : xMv YX11_node 11 1 := ⟨_, _, _, by decide, rfl, ⟨q2866, plainFor_of_name pnX11, mhX11, pd7⟩, q2865, qs148⟩
set_option maxRecDepth 100000 in
theorem pd8 : (parseMethodDescriptor "(II)V").map (fun s => s.parameters.length) = some 2 := by decide +kernel
set_option maxRecDepth 100000 in
theorem mvX11_add : xMv YX11_add 11 2 := ⟨_, _, _, by decide, rfl, ⟨q2862, plainFor_of_name pnX11, mhX11, pd8⟩, q2860, q2861⟩
set_option maxRecDepth 100000 in
theorem mvX11_bring : xMv YX11_bring 11 2 := ⟨_, _, _, by decide, rfl, ⟨q2876, plainFor_of_name pnX11, mhX11, pd8⟩, q2874, q2875⟩
set_option maxRecDepth 100000 in
theorem pnX10 : plainName RX10 = true := by decide +kernel
set_option maxRecDepth 100000 in
theorem mhX10 : RX10 ≠ "java/lang/invoke/MethodHandle" ∧ RX10 ≠ "java/lang/invoke/VarHandle" := by decide +kernel
set_option maxRecDepth 100000 in
theorem mvX10_forget : xMv YX10_forget 10 2 := ⟨_, _, _, by decide, rfl, ⟨q2846, plainFor_of_name pnX10, mhX10, pd8⟩, q2844, q2845⟩
set_option maxRecDepth 100000 in
theorem gfX11_82 : xFn RX11 82 10 0 (.array .long) true := ⟨_, _, _, _, by decide, rfl, by decide, in_X10, List.mem_filter.mpr ⟨q1210, rfl⟩, rfl, tyX10_ok, nmX10, rfl, by decide⟩
set_option maxRecDepth 100000 in
theorem gfX11_85 : xFn RX11 85 10 1 (.array .long) true := ⟨_, _, _, _, by decide, rfl, by decide, in_X10, List.mem_filter.mpr ⟨q1213, rfl⟩, rfl, tyX10_ok, nmX10, rfl, by decide⟩
set_option maxRecDepth 100000 in
theorem gfX11_86 : xFn RX11 86 10 2 (.array .double) true := ⟨_, _, _, _, by decide, rfl, by decide, in_X10, List.mem_filter.mpr ⟨q1216, rfl⟩, rfl, tyX10_ok, nmX10, rfl, by decide⟩
set_option maxRecDepth 100000 in
theorem gfX11_87 : xFn RX11 87 10 3 (.array .boolean) true := ⟨_, _, _, _, by decide, rfl, by decide, in_X10, List.mem_filter.mpr ⟨q1219, rfl⟩, rfl, tyX10_ok, nmX10, rfl, by decide⟩
set_option maxRecDepth 100000 in
theorem fdX1_7 : xFd RX1 7 1 0 (.int) false := ⟨_, _, _, by decide, rfl, by decide, in_X1, q483, rfl, tyX1_ok, nmX1, rfl, by decide⟩
set_option maxRecDepth 100000 in
theorem fdX1_13 : xFd RX1 13 1 1 (.int) false := ⟨_, _, _, by decide, rfl, by decide, in_X1, q485, rfl, tyX1_ok, nmX1, rfl, by decide⟩
set_option maxRecDepth 100000 in
theorem iwX1 : xiw RX1 18 := by unfold xiw; decide +kernel
set_option maxRecDepth 100000 in
theorem fdX3_9 : xFd RX3 9 3 0 (.object "PascalHouse$Scanner") true := ⟨_, _, _, by decide, rfl, by decide, in_X3, q664, rfl, tyX3_ok, nmX3, rfl, by decide⟩
set_option maxRecDepth 100000 in
theorem owX3_init_0 : xOwn YX3_init 3 0 := ⟨rfl, _, _, rfl, rfl⟩
set_option maxRecDepth 100000 in
theorem fdX3_15 : xFd RX3 15 3 1 (.object "PascalHouse$Faults") true := ⟨_, _, _, by decide, rfl, by decide, in_X3, q665, rfl, tyX3_ok, nmX3, rfl, by decide⟩
set_option maxRecDepth 100000 in
theorem owX3_init_1 : xOwn YX3_init 3 1 := ⟨rfl, _, _, rfl, rfl⟩
set_option maxRecDepth 100000 in
theorem pnX4 : plainName RX4 = true := by decide +kernel
set_option maxRecDepth 100000 in
theorem mhX4 : RX4 ≠ "java/lang/invoke/MethodHandle" ∧ RX4 ≠ "java/lang/invoke/VarHandle" := by decide +kernel
set_option maxRecDepth 100000 in
theorem mvX4_begin : xMv YX4_begin 4 1 := ⟨_, _, _, by decide, rfl, ⟨q1567, plainFor_of_name pnX4, mhX4, pd0⟩, q1565, q1566⟩
set_option maxRecDepth 100000 in
theorem fdX3_29 : xFd RX3 29 3 3 (.int) false := ⟨_, _, _, by decide, rfl, by decide, in_X3, q667, rfl, tyX3_ok, nmX3, rfl, by decide⟩
set_option maxRecDepth 100000 in
theorem fdX3_68 : xFd RX3 68 3 4 (.int) false := ⟨_, _, _, by decide, rfl, by decide, in_X3, q669, rfl, tyX3_ok, nmX3, rfl, by decide⟩
set_option maxRecDepth 100000 in
theorem pnX3 : plainName RX3 = true := by decide +kernel
set_option maxRecDepth 100000 in
theorem mhX3 : RX3 ≠ "java/lang/invoke/MethodHandle" ∧ RX3 ≠ "java/lang/invoke/VarHandle" := by decide +kernel
set_option maxRecDepth 100000 in
theorem mvX3_step : xMv YX3_step 3 0 := ⟨_, _, _, by decide, rfl, ⟨q1571, plainFor_of_name pnX3, mhX3, pd1⟩, q1570, qs9⟩
set_option maxRecDepth 100000 in
theorem srX3_97 : ∃ t, xstrs[67]? = some (RX3, 97, t, 24) := ⟨_, rfl⟩
set_option maxRecDepth 100000 in
theorem pd9 : (parseMethodDescriptor "(Ljava/lang/String;)LPascalHouse$Symbol;").map (fun s => s.parameters.length) = some 1 := by decide +kernel
set_option maxRecDepth 100000 in
theorem mvX3_need : xMv YX3_need 3 1 := ⟨_, _, _, by decide, rfl, ⟨q1722, plainFor_of_name pnX3, mhX3, pd9⟩, q1721, qs19⟩
set_option maxRecDepth 100000 in
theorem cdX3_71 : xCd RX3 71 15 6 := ⟨_, _, _, by decide, rfl, in_X15, tyX15_ok, q1742, q1743, q411⟩
set_option maxRecDepth 100000 in
theorem pd10 : (parseMethodDescriptor "(LPascalHouse$Sort;)LPascalHouse$Symbol;").map (fun s => s.parameters.length) = some 1 := by decide +kernel
set_option maxRecDepth 100000 in
theorem mvX3_needSort : xMv YX3_needSort 3 1 := ⟨_, _, _, by decide, rfl, ⟨q1748, plainFor_of_name pnX3, mhX3, pd10⟩, q1747, qs23⟩
set_option maxRecDepth 100000 in
theorem pnX15 : plainName RX15 = true := by decide +kernel
set_option maxRecDepth 100000 in
theorem mhX15 : RX15 ≠ "java/lang/invoke/MethodHandle" ∧ RX15 ≠ "java/lang/invoke/VarHandle" := by decide +kernel
set_option maxRecDepth 100000 in
theorem pd11 : (parseMethodDescriptor "(ILPascalHouse$Symbol;)V").map (fun s => s.parameters.length) = some 2 := by decide +kernel
set_option maxRecDepth 100000 in
theorem miX15_init : xMi YX15_init 2 := ⟨⟨q1751, plainFor_of_name pnX15, mhX15, pd11⟩, q1750, rfl, rfl, rfl⟩
set_option maxRecDepth 100000 in
theorem gfX3_103 : xFn RX3 103 15 1 (.object "PascalHouse$Symbol") true := ⟨_, _, _, _, by decide, rfl, by decide, in_X15, List.mem_filter.mpr ⟨q1757, rfl⟩, rfl, tyX15_ok, nmX15, rfl, by decide⟩
set_option maxRecDepth 100000 in
theorem srX3_105 : ∃ t, xstrs[68]? = some (RX3, 105, t, 60) := ⟨_, rfl⟩
set_option maxRecDepth 100000 in
theorem pd12 : (parseMethodDescriptor "(Ljava/lang/String;)Z").map (fun s => s.parameters.length) = some 1 := by decide +kernel
set_option maxRecDepth 100000 in
theorem mvX3_has : xMv YX3_has 3 1 := ⟨_, _, _, by decide, rfl, ⟨q1786, plainFor_of_name pnX3, mhX3, pd12⟩, q1785, qs24⟩
set_option maxRecDepth 100000 in
theorem pd13 : (parseMethodDescriptor "(LPascalHouse$Tree;)V").map (fun s => s.parameters.length) = some 1 := by decide +kernel
set_option maxRecDepth 100000 in
theorem mvX3_names : xMv YX3_names 3 1 := ⟨_, _, _, by decide, rfl, ⟨q1790, plainFor_of_name pnX3, mhX3, pd13⟩, q1789, qs25⟩
set_option maxRecDepth 100000 in
theorem srX3_111 : ∃ t, xstrs[70]? = some (RX3, 111, t, 61) := ⟨_, rfl⟩
set_option maxRecDepth 100000 in
theorem srX3_113 : ∃ t, xstrs[71]? = some (RX3, 113, t, 64) := ⟨_, rfl⟩
set_option maxRecDepth 100000 in
theorem pd14 : (parseMethodDescriptor "(LPascalHouse$Tree;)LPascalHouse$Tree;").map (fun s => s.parameters.length) = some 1 := by decide +kernel
set_option maxRecDepth 100000 in
theorem mvX15_add : xMv YX15_add 15 1 := ⟨_, _, _, by decide, rfl, ⟨q1798, plainFor_of_name pnX15, mhX15, pd14⟩, q1796, q1797⟩
set_option maxRecDepth 100000 in
theorem pd15 : (parseMethodDescriptor "()LPascalHouse$Tree;").map (fun s => s.parameters.length) = some 0 := by decide +kernel
set_option maxRecDepth 100000 in
theorem mvX3_block : xMv YX3_block 3 0 := ⟨_, _, _, by decide, rfl, ⟨q1805, plainFor_of_name pnX3, mhX3, pd15⟩, q1804, qs27⟩
set_option maxRecDepth 100000 in
theorem srX3_118 : ∃ t, xstrs[96]? = some (RX3, 118, t, 62) := ⟨_, rfl⟩
set_option maxRecDepth 100000 in
theorem fdX3_25 : xFd RX3 25 3 2 (.object "PascalHouse$Symbol") false := ⟨_, _, _, by decide, rfl, by decide, in_X3, q666, rfl, tyX3_ok, nmX3, rfl, by decide⟩
set_option maxRecDepth 100000 in
theorem gfX3_39 : xFn RX3 39 14 0 (.object "PascalHouse$Sort") true := ⟨_, _, _, _, by decide, rfl, by decide, in_X14, List.mem_filter.mpr ⟨q1603, rfl⟩, rfl, tyX14_ok, nmX14, rfl, by decide⟩
set_option maxRecDepth 100000 in
theorem pd16 : (parseMethodDescriptor "()Ljava/lang/IllegalStateException;").map (fun s => s.parameters.length) = some 0 := by decide +kernel
set_option maxRecDepth 100000 in
theorem mvX3_wrong : xMv YX3_wrong 3 0 := ⟨_, _, _, by decide, rfl, ⟨q1736, plainFor_of_name pnX3, mhX3, pd16⟩, q1735, qs21⟩
set_option maxRecDepth 100000 in
theorem pd17 : (parseMethodDescriptor "()LPascalHouse$Symbol;").map (fun s => s.parameters.length) = some 0 := by decide +kernel
set_option maxRecDepth 100000 in
theorem mvX4_next : xMv YX4_next 4 0 := ⟨_, _, _, by decide, rfl, ⟨q1575, plainFor_of_name pnX4, mhX4, pd17⟩, q1573, q1574⟩
set_option maxRecDepth 100000 in
theorem mvX3_is : xMv YX3_is 3 1 := ⟨_, _, _, by decide, rfl, ⟨q1726, plainFor_of_name pnX3, mhX3, pd12⟩, q1725, qs20⟩
set_option maxRecDepth 100000 in
theorem mvX3_take : xMv YX3_take 3 0 := ⟨_, _, _, by decide, rfl, ⟨q1741, plainFor_of_name pnX3, mhX3, pd17⟩, q1740, qs22⟩
set_option maxRecDepth 100000 in
theorem pnX14 : plainName RX14 = true := by decide +kernel
set_option maxRecDepth 100000 in
theorem mhX14 : RX14 ≠ "java/lang/invoke/MethodHandle" ∧ RX14 ≠ "java/lang/invoke/VarHandle" := by decide +kernel
set_option maxRecDepth 100000 in
theorem mvX14_is : xMv YX14_is 14 1 := ⟨_, _, _, by decide, rfl, ⟨q1730, plainFor_of_name pnX14, mhX14, pd12⟩, q1728, q1729⟩
set_option maxRecDepth 100000 in
theorem gfX3_48 : xFn RX3 48 14 2 (.int) true := ⟨_, _, _, _, by decide, rfl, by decide, in_X14, List.mem_filter.mpr ⟨q1611, rfl⟩, rfl, tyX14_ok, nmX14, rfl, by decide⟩
set_option maxRecDepth 100000 in
theorem pnX1 : plainName RX1 = true := by decide +kernel
set_option maxRecDepth 100000 in
theorem mhX1 : RX1 ≠ "java/lang/invoke/MethodHandle" ∧ RX1 ≠ "java/lang/invoke/VarHandle" := by decide +kernel
set_option maxRecDepth 100000 in
theorem pd18 : (parseMethodDescriptor "(II)Ljava/lang/IllegalStateException;").map (fun s => s.parameters.length) = some 2 := by decide +kernel
set_option maxRecDepth 100000 in
theorem mvX1_at : xMv YX1_at 1 2 := ⟨_, _, _, by decide, rfl, ⟨q1498, plainFor_of_name pnX1, mhX1, pd18⟩, q1496, q1497⟩
set_option maxRecDepth 100000 in
theorem mvX3_name : xMv YX3_name 3 0 := ⟨_, _, _, by decide, rfl, ⟨q1794, plainFor_of_name pnX3, mhX3, pd15⟩, q1793, qs26⟩
set_option maxRecDepth 100000 in
theorem srX3_88 : ∃ t, xstrs[69]? = some (RX3, 88, t, 63) := ⟨_, rfl⟩
set_option maxRecDepth 100000 in
theorem mvX3_deeper : xMv YX3_deeper 3 0 := ⟨_, _, _, by decide, rfl, ⟨q1809, plainFor_of_name pnX3, mhX3, pd1⟩, q1808, qs28⟩
set_option maxRecDepth 100000 in
theorem srX3_126 : ∃ t, xstrs[72]? = some (RX3, 126, t, 16) := ⟨_, rfl⟩
set_option maxRecDepth 100000 in
theorem mvX3_constants : xMv YX3_constants 3 0 := ⟨_, _, _, by decide, rfl, ⟨q1815, plainFor_of_name pnX3, mhX3, pd15⟩, q1814, qs29⟩
set_option maxRecDepth 100000 in
theorem mvX3_types : xMv YX3_types 3 0 := ⟨_, _, _, by decide, rfl, ⟨q1833, plainFor_of_name pnX3, mhX3, pd15⟩, q1832, qs32⟩
set_option maxRecDepth 100000 in
theorem mvX3_variables : xMv YX3_variables 3 0 := ⟨_, _, _, by decide, rfl, ⟨q1883, plainFor_of_name pnX3, mhX3, pd15⟩, q1882, qs41⟩
set_option maxRecDepth 100000 in
theorem srX3_140 : ∃ t, xstrs[92]? = some (RX3, 140, t, 23) := ⟨_, rfl⟩
set_option maxRecDepth 100000 in
theorem srX3_142 : ∃ t, xstrs[93]? = some (RX3, 142, t, 12) := ⟨_, rfl⟩
set_option maxRecDepth 100000 in
theorem mvX3_compound : xMv YX3_compound 3 0 := ⟨_, _, _, by decide, rfl, ⟨q1904, plainFor_of_name pnX3, mhX3, pd15⟩, q1903, qs45⟩
set_option maxRecDepth 100000 in
theorem mvX3_routine : xMv YX3_routine 3 0 := ⟨_, _, _, by decide, rfl, ⟨q1890, plainFor_of_name pnX3, mhX3, pd15⟩, q1889, qs42⟩
set_option maxRecDepth 100000 in
theorem srX3_150 : ∃ t, xstrs[73]? = some (RX3, 150, t, 4) := ⟨_, rfl⟩
set_option maxRecDepth 100000 in
theorem srX3_152 : ∃ t, xstrs[74]? = some (RX3, 152, t, 57) := ⟨_, rfl⟩
set_option maxRecDepth 100000 in
theorem mvX3_constant : xMv YX3_constant 3 0 := ⟨_, _, _, by decide, rfl, ⟨q1821, plainFor_of_name pnX3, mhX3, pd15⟩, q1820, qs30⟩
set_option maxRecDepth 100000 in
theorem mvX3_isName : xMv YX3_isName 3 0 := ⟨_, _, _, by decide, rfl, ⟨q1829, plainFor_of_name pnX3, mhX3, pd6⟩, q1828, qs31⟩
set_option maxRecDepth 100000 in
theorem srX3_196 : ∃ t, xstrs[75]? = some (RX3, 196, t, 53) := ⟨_, rfl⟩
set_option maxRecDepth 100000 in
theorem srX3_198 : ∃ t, xstrs[76]? = some (RX3, 198, t, 54) := ⟨_, rfl⟩
set_option maxRecDepth 100000 in
theorem srX3_161 : ∃ t, xstrs[77]? = some (RX3, 161, t, 30) := ⟨_, rfl⟩
set_option maxRecDepth 100000 in
theorem mvX3_type : xMv YX3_type 3 0 := ⟨_, _, _, by decide, rfl, ⟨q1838, plainFor_of_name pnX3, mhX3, pd15⟩, q1837, qs33⟩
set_option maxRecDepth 100000 in
theorem srX3_203 : ∃ t, xstrs[78]? = some (RX3, 203, t, 66) := ⟨_, rfl⟩
set_option maxRecDepth 100000 in
theorem srX3_205 : ∃ t, xstrs[79]? = some (RX3, 205, t, 22) := ⟨_, rfl⟩
set_option maxRecDepth 100000 in
theorem srX3_210 : ∃ t, xstrs[80]? = some (RX3, 210, t, 1) := ⟨_, rfl⟩
set_option maxRecDepth 100000 in
theorem srX3_212 : ∃ t, xstrs[85]? = some (RX3, 212, t, 25) := ⟨_, rfl⟩
set_option maxRecDepth 100000 in
theorem srX3_214 : ∃ t, xstrs[89]? = some (RX3, 214, t, 27) := ⟨_, rfl⟩
set_option maxRecDepth 100000 in
theorem srX3_216 : ∃ t, xstrs[90]? = some (RX3, 216, t, 10) := ⟨_, rfl⟩
set_option maxRecDepth 100000 in
theorem mvX3_simple : xMv YX3_simple 3 0 := ⟨_, _, _, by decide, rfl, ⟨q1854, plainFor_of_name pnX3, mhX3, pd15⟩, q1853, qs36⟩
set_option maxRecDepth 100000 in
theorem mvX3_structure : xMv YX3_structure 3 0 := ⟨_, _, _, by decide, rfl, ⟨q1848, plainFor_of_name pnX3, mhX3, pd15⟩, q1847, qs35⟩
set_option maxRecDepth 100000 in
theorem mvX3_named : xMv YX3_named 3 0 := ⟨_, _, _, by decide, rfl, ⟨q1843, plainFor_of_name pnX3, mhX3, pd15⟩, q1842, qs34⟩
set_option maxRecDepth 100000 in
theorem mvX3_fields : xMv YX3_fields 3 0 := ⟨_, _, _, by decide, rfl, ⟨q1862, plainFor_of_name pnX3, mhX3, pd15⟩, q1861, qs37⟩
set_option maxRecDepth 100000 in
theorem srX3_230 : ∃ t, xstrs[88]? = some (RX3, 230, t, 9) := ⟨_, rfl⟩
set_option maxRecDepth 100000 in
theorem srX3_221 : ∃ t, xstrs[81]? = some (RX3, 221, t, 46) := ⟨_, rfl⟩
set_option maxRecDepth 100000 in
theorem srX3_223 : ∃ t, xstrs[83]? = some (RX3, 223, t, 47) := ⟨_, rfl⟩
set_option maxRecDepth 100000 in
theorem srX3_225 : ∃ t, xstrs[84]? = some (RX3, 225, t, 20) := ⟨_, rfl⟩
set_option maxRecDepth 100000 in
theorem gfX3_232 : xFn RX3 232 15 2 (.object "PascalHouse$Tree") false := ⟨_, _, _, _, by decide, rfl, by decide, in_X15, List.mem_filter.mpr ⟨q1761, rfl⟩, rfl, tyX15_ok, nmX15, rfl, by decide⟩
set_option maxRecDepth 100000 in
theorem srX3_236 : ∃ t, xstrs[82]? = some (RX3, 236, t, 52) := ⟨_, rfl⟩
set_option maxRecDepth 100000 in
theorem srX3_238 : ∃ t, xstrs[86]? = some (RX3, 238, t, 3) := ⟨_, rfl⟩
set_option maxRecDepth 100000 in
theorem mvX3_section : xMv YX3_section 3 0 := ⟨_, _, _, by decide, rfl, ⟨q1877, plainFor_of_name pnX3, mhX3, pd15⟩, q1876, qs40⟩
set_option maxRecDepth 100000 in
theorem mvX3_variants : xMv YX3_variants 3 0 := ⟨_, _, _, by decide, rfl, ⟨q1867, plainFor_of_name pnX3, mhX3, pd15⟩, q1866, qs38⟩
set_option maxRecDepth 100000 in
theorem srX3_170 : ∃ t, xstrs[87]? = some (RX3, 170, t, 65) := ⟨_, rfl⟩
set_option maxRecDepth 100000 in
theorem mvX3_choice : xMv YX3_choice 3 0 := ⟨_, _, _, by decide, rfl, ⟨q1873, plainFor_of_name pnX3, mhX3, pd15⟩, q1872, qs39⟩
set_option maxRecDepth 100000 in
theorem srX3_165 : ∃ t, xstrs[91]? = some (RX3, 165, t, 32) := ⟨_, rfl⟩
set_option maxRecDepth 100000 in
theorem mvX3_params : xMv YX3_params 3 0 := ⟨_, _, _, by decide, rfl, ⟨q1894, plainFor_of_name pnX3, mhX3, pd15⟩, q1893, qs43⟩
set_option maxRecDepth 100000 in
theorem gfX3_178 : xFn RX3 178 14 1 (.object "java/lang/String") true := ⟨_, _, _, _, by decide, rfl, by decide, in_X14, List.mem_filter.mpr ⟨q1608, rfl⟩, rfl, tyX14_ok, nmX14, rfl, by decide⟩
set_option maxRecDepth 100000 in
theorem srX3_182 : ∃ t, xstrs[94]? = some (RX3, 182, t, 67) := ⟨_, rfl⟩
set_option maxRecDepth 100000 in
theorem pd19 : (parseMethodDescriptor "(Ljava/lang/Object;)Z").map (fun s => s.parameters.length) = some 1 := by decide +kernel
set_option maxRecDepth 100000 in
theorem mvJ5_equals : xMv YJ5_equals 30 1 := ⟨_, _, _, by decide, rfl, ⟨q1646, plainFor_of_name pnJ5, mhJ5, pd19⟩, q1644, q1645⟩
set_option maxRecDepth 100000 in
theorem mvX3_group : xMv YX3_group 3 0 := ⟨_, _, _, by decide, rfl, ⟨q1898, plainFor_of_name pnX3, mhX3, pd15⟩, q1897, qs44⟩
set_option maxRecDepth 100000 in
theorem srX3_246 : ∃ t, xstrs[95]? = some (RX3, 246, t, 2) := ⟨_, rfl⟩
set_option maxRecDepth 100000 in
theorem mvX3_row : xMv YX3_row 3 1 := ⟨_, _, _, by decide, rfl, ⟨q1909, plainFor_of_name pnX3, mhX3, pd14⟩, q1908, qs46⟩
set_option maxRecDepth 100000 in
theorem mvX3_statement : xMv YX3_statement 3 0 := ⟨_, _, _, by decide, rfl, ⟨q1913, plainFor_of_name pnX3, mhX3, pd15⟩, q1912, qs47⟩
set_option maxRecDepth 100000 in
theorem mvX3_plain : xMv YX3_plain 3 0 := ⟨_, _, _, by decide, rfl, ⟨q1917, plainFor_of_name pnX3, mhX3, pd15⟩, q1916, qs48⟩
set_option maxRecDepth 100000 in
theorem srX3_259 : ∃ t, xstrs[112]? = some (RX3, 259, t, 14) := ⟨_, rfl⟩
set_option maxRecDepth 100000 in
theorem srX3_272 : ∃ t, xstrs[115]? = some (RX3, 272, t, 33) := ⟨_, rfl⟩
set_option maxRecDepth 100000 in
theorem srX3_276 : ∃ t, xstrs[117]? = some (RX3, 276, t, 26) := ⟨_, rfl⟩
set_option maxRecDepth 100000 in
theorem srX3_280 : ∃ t, xstrs[119]? = some (RX3, 280, t, 11) := ⟨_, rfl⟩
set_option maxRecDepth 100000 in
theorem srX3_285 : ∃ t, xstrs[122]? = some (RX3, 285, t, 34) := ⟨_, rfl⟩
set_option maxRecDepth 100000 in
theorem srX3_290 : ∃ t, xstrs[123]? = some (RX3, 290, t, 13) := ⟨_, rfl⟩
set_option maxRecDepth 100000 in
theorem pd20 : (parseMethodDescriptor "(ILPascalHouse$Symbol;)LPascalHouse$Tree;").map (fun s => s.parameters.length) = some 2 := by decide +kernel
set_option maxRecDepth 100000 in
theorem mvX3_with : xMv YX3_with 3 2 := ⟨_, _, _, by decide, rfl, ⟨q2000, plainFor_of_name pnX3, mhX3, pd20⟩, q1999, qs62⟩
set_option maxRecDepth 100000 in
theorem pd21 : (parseMethodDescriptor "(LPascalHouse$Symbol;)LPascalHouse$Tree;").map (fun s => s.parameters.length) = some 1 := by decide +kernel
set_option maxRecDepth 100000 in
theorem mvX3_loop : xMv YX3_loop 3 1 := ⟨_, _, _, by decide, rfl, ⟨q1993, plainFor_of_name pnX3, mhX3, pd21⟩, q1992, qs61⟩
set_option maxRecDepth 100000 in
theorem srX3_278 : ∃ t, xstrs[118]? = some (RX3, 278, t, 31) := ⟨_, rfl⟩
set_option maxRecDepth 100000 in
theorem mvX3_e : xMv YX3_e 3 0 := ⟨_, _, _, by decide, rfl, ⟨q1931, plainFor_of_name pnX3, mhX3, pd15⟩, q1930, qs51⟩
set_option maxRecDepth 100000 in
theorem srX3_274 : ∃ t, xstrs[116]? = some (RX3, 274, t, 6) := ⟨_, rfl⟩
set_option maxRecDepth 100000 in
theorem mvX3_caseOf : xMv YX3_caseOf 3 1 := ⟨_, _, _, by decide, rfl, ⟨q1984, plainFor_of_name pnX3, mhX3, pd21⟩, q1983, qs60⟩
set_option maxRecDepth 100000 in
theorem srX3_264 : ∃ t, xstrs[113]? = some (RX3, 264, t, 28) := ⟨_, rfl⟩
set_option maxRecDepth 100000 in
theorem srX3_266 : ∃ t, xstrs[114]? = some (RX3, 266, t, 8) := ⟨_, rfl⟩
set_option maxRecDepth 100000 in
theorem mvX3_named0 : xMv YX3_named0 3 0 := ⟨_, _, _, by decide, rfl, ⟨q1921, plainFor_of_name pnX3, mhX3, pd15⟩, q1920, qs49⟩
set_option maxRecDepth 100000 in
theorem srX3_292 : ∃ t, xstrs[97]? = some (RX3, 292, t, 51) := ⟨_, rfl⟩
set_option maxRecDepth 100000 in
theorem mvX3_variable : xMv YX3_variable 3 1 := ⟨_, _, _, by decide, rfl, ⟨q1927, plainFor_of_name pnX3, mhX3, pd21⟩, q1926, qs50⟩
set_option maxRecDepth 100000 in
theorem mvX3_argument : xMv YX3_argument 3 0 := ⟨_, _, _, by decide, rfl, ⟨q1977, plainFor_of_name pnX3, mhX3, pd15⟩, q1976, qs59⟩
set_option maxRecDepth 100000 in
theorem mvX3_sum : xMv YX3_sum 3 0 := ⟨_, _, _, by decide, rfl, ⟨q1935, plainFor_of_name pnX3, mhX3, pd15⟩, q1934, qs52⟩
set_option maxRecDepth 100000 in
theorem mvX3_isRelation : xMv YX3_isRelation 3 0 := ⟨_, _, _, by decide, rfl, ⟨q1967, plainFor_of_name pnX3, mhX3, pd6⟩, q1966, qs58⟩
set_option maxRecDepth 100000 in
theorem mvX3_term : xMv YX3_term 3 0 := ⟨_, _, _, by decide, rfl, ⟨q1939, plainFor_of_name pnX3, mhX3, pd15⟩, q1938, qs53⟩
set_option maxRecDepth 100000 in
theorem srX3_325 : ∃ t, xstrs[105]? = some (RX3, 325, t, 21) := ⟨_, rfl⟩
set_option maxRecDepth 100000 in
theorem mvX3_factor : xMv YX3_factor 3 0 := ⟨_, _, _, by decide, rfl, ⟨q1943, plainFor_of_name pnX3, mhX3, pd15⟩, q1942, qs54⟩
set_option maxRecDepth 100000 in
theorem mvX3_isTimes : xMv YX3_isTimes 3 0 := ⟨_, _, _, by decide, rfl, ⟨q1957, plainFor_of_name pnX3, mhX3, pd6⟩, q1956, qs57⟩
set_option maxRecDepth 100000 in
theorem mvX3_atom : xMv YX3_atom 3 0 := ⟨_, _, _, by decide, rfl, ⟨q1947, plainFor_of_name pnX3, mhX3, pd15⟩, q1946, qs55⟩
set_option maxRecDepth 100000 in
theorem srX3_346 : ∃ t, xstrs[98]? = some (RX3, 346, t, 18) := ⟨_, rfl⟩
set_option maxRecDepth 100000 in
theorem srX3_348 : ∃ t, xstrs[99]? = some (RX3, 348, t, 19) := ⟨_, rfl⟩
set_option maxRecDepth 100000 in
theorem mvX3_make : xMv YX3_make 3 0 := ⟨_, _, _, by decide, rfl, ⟨q1953, plainFor_of_name pnX3, mhX3, pd15⟩, q1952, qs56⟩
set_option maxRecDepth 100000 in
theorem srX3_327 : ∃ t, xstrs[100]? = some (RX3, 327, t, 55) := ⟨_, rfl⟩
set_option maxRecDepth 100000 in
theorem srX3_329 : ∃ t, xstrs[101]? = some (RX3, 329, t, 56) := ⟨_, rfl⟩
set_option maxRecDepth 100000 in
theorem srX3_331 : ∃ t, xstrs[102]? = some (RX3, 331, t, 5) := ⟨_, rfl⟩
set_option maxRecDepth 100000 in
theorem srX3_333 : ∃ t, xstrs[103]? = some (RX3, 333, t, 17) := ⟨_, rfl⟩
set_option maxRecDepth 100000 in
theorem srX3_335 : ∃ t, xstrs[104]? = some (RX3, 335, t, 0) := ⟨_, rfl⟩
set_option maxRecDepth 100000 in
theorem srX3_304 : ∃ t, xstrs[106]? = some (RX3, 304, t, 50) := ⟨_, rfl⟩
set_option maxRecDepth 100000 in
theorem srX3_306 : ∃ t, xstrs[107]? = some (RX3, 306, t, 58) := ⟨_, rfl⟩
set_option maxRecDepth 100000 in
theorem srX3_308 : ∃ t, xstrs[108]? = some (RX3, 308, t, 59) := ⟨_, rfl⟩
set_option maxRecDepth 100000 in
theorem srX3_310 : ∃ t, xstrs[109]? = some (RX3, 310, t, 48) := ⟨_, rfl⟩
set_option maxRecDepth 100000 in
theorem srX3_312 : ∃ t, xstrs[110]? = some (RX3, 312, t, 49) := ⟨_, rfl⟩
set_option maxRecDepth 100000 in
theorem srX3_314 : ∃ t, xstrs[111]? = some (RX3, 314, t, 15) := ⟨_, rfl⟩
set_option maxRecDepth 100000 in
theorem srX3_294 : ∃ t, xstrs[120]? = some (RX3, 294, t, 7) := ⟨_, rfl⟩
set_option maxRecDepth 100000 in
theorem srX3_296 : ∃ t, xstrs[121]? = some (RX3, 296, t, 29) := ⟨_, rfl⟩
set_option maxRecDepth 100000 in
theorem fdX26_9 : xFd RX26 9 26 0 (.object "PascalHouseModel$Variants") true := ⟨_, _, _, by decide, rfl, by decide, in_X26, q4213, rfl, tyX26_ok, nmX26, rfl, by decide⟩
set_option maxRecDepth 100000 in
theorem owX26_init_0 : xOwn YX26_init 26 0 := ⟨rfl, _, _, rfl, rfl⟩
set_option maxRecDepth 100000 in
theorem fdX26_15 : xFd RX26 15 26 1 (.int) true := ⟨_, _, _, by decide, rfl, by decide, in_X26, q4215, rfl, tyX26_ok, nmX26, rfl, by decide⟩
set_option maxRecDepth 100000 in
theorem owX26_init_1 : xOwn YX26_init 26 1 := ⟨rfl, _, _, rfl, rfl⟩
set_option maxRecDepth 100000 in
theorem fdX26_19 : xFd RX26 19 26 6 (.array .int) true := ⟨_, _, _, by decide, rfl, by decide, in_X26, q4221, rfl, tyX26_ok, nmX26, rfl, by decide⟩
set_option maxRecDepth 100000 in
theorem owX26_init_6 : xOwn YX26_init 26 6 := ⟨rfl, _, _, rfl, rfl⟩
set_option maxRecDepth 100000 in
theorem fdX26_23 : xFd RX26 23 26 7 (.array .int) true := ⟨_, _, _, by decide, rfl, by decide, in_X26, q4222, rfl, tyX26_ok, nmX26, rfl, by decide⟩
set_option maxRecDepth 100000 in
theorem owX26_init_7 : xOwn YX26_init 26 7 := ⟨rfl, _, _, rfl, rfl⟩
set_option maxRecDepth 100000 in
theorem pnX26 : plainName RX26 = true := by decide +kernel
set_option maxRecDepth 100000 in
theorem mhX26 : RX26 ≠ "java/lang/invoke/MethodHandle" ∧ RX26 ≠ "java/lang/invoke/VarHandle" := by decide +kernel
set_option maxRecDepth 100000 in
theorem mvX26_below : xMv YX26_below 26 1 := ⟨_, _, _, by decide, rfl, ⟨q4258, plainFor_of_name pnX26, mhX26, pd7⟩, q4257, qs269⟩
set_option maxRecDepth 100000 in
theorem fdX26_26 : xFd RX26 26 26 8 (.int) false := ⟨_, _, _, by decide, rfl, by decide, in_X26, q4223, rfl, tyX26_ok, nmX26, rfl, by decide⟩
set_option maxRecDepth 100000 in
theorem fdX13_9 : xFd RX13 9 13 6 (.long) false := ⟨_, _, _, by decide, rfl, by decide, in_X13, q3225, rfl, tyX13_ok, nmX13, rfl, by decide⟩
set_option maxRecDepth 100000 in
theorem fdX13_15 : xFd RX13 15 13 0 (.int) true := ⟨_, _, _, by decide, rfl, by decide, in_X13, q3213, rfl, tyX13_ok, nmX13, rfl, by decide⟩
set_option maxRecDepth 100000 in
theorem owX13_init_0 : xOwn YX13_init 13 0 := ⟨rfl, _, _, rfl, rfl⟩
set_option maxRecDepth 100000 in
theorem pnX13 : plainName RX13 = true := by decide +kernel
set_option maxRecDepth 100000 in
theorem mhX13 : RX13 ≠ "java/lang/invoke/MethodHandle" ∧ RX13 ≠ "java/lang/invoke/VarHandle" := by decide +kernel
set_option maxRecDepth 100000 in
theorem pd22 : (parseMethodDescriptor "()LPascalHouseModel$Type;").map (fun s => s.parameters.length) = some 0 := by decide +kernel
set_option maxRecDepth 100000 in
theorem mvX13_own : xMv YX13_own 13 0 := ⟨_, _, _, by decide, rfl, ⟨q4172, plainFor_of_name pnX13, mhX13, pd22⟩, q4170, q4171⟩
set_option maxRecDepth 100000 in
theorem fdX13_19 : xFd RX13 19 13 3 (.object "PascalHouseModel$Type") false := ⟨_, _, _, by decide, rfl, by decide, in_X13, q3219, rfl, tyX13_ok, nmX13, rfl, by decide⟩
set_option maxRecDepth 100000 in
theorem fdX13_30 : xFd RX13 30 13 2 (.int) false := ⟨_, _, _, by decide, rfl, by decide, in_X13, q3217, rfl, tyX13_ok, nmX13, rfl, by decide⟩
set_option maxRecDepth 100000 in
theorem fdX13_36 : xFd RX13 36 13 1 (.int) false := ⟨_, _, _, by decide, rfl, by decide, in_X13, q3215, rfl, tyX13_ok, nmX13, rfl, by decide⟩
set_option maxRecDepth 100000 in
theorem fdX13_27 : xFd RX13 27 13 5 (.object "PascalHouseModel$Type") false := ⟨_, _, _, by decide, rfl, by decide, in_X13, q3223, rfl, tyX13_ok, nmX13, rfl, by decide⟩
set_option maxRecDepth 100000 in
theorem fdX13_33 : xFd RX13 33 13 4 (.object "PascalHouseModel$Type") false := ⟨_, _, _, by decide, rfl, by decide, in_X13, q3221, rfl, tyX13_ok, nmX13, rfl, by decide⟩
set_option maxRecDepth 100000 in
theorem cdX7_7 : xCd RX7 7 28 3 := ⟨_, _, _, by decide, rfl, in_J2, tyJ2_ok, q756, q501, q382⟩
set_option maxRecDepth 100000 in
theorem fdX7_12 : xFd RX7 12 7 0 (.object "java/util/ArrayList") true := ⟨_, _, _, by decide, rfl, by decide, in_X7, q758, rfl, tyX7_ok, nmX7, rfl, by decide⟩
set_option maxRecDepth 100000 in
theorem owX7_init_0 : xOwn YX7_init 7 0 := ⟨rfl, _, _, rfl, rfl⟩
set_option maxRecDepth 100000 in
theorem fdX7_18 : xFd RX7 18 7 1 (.object "PascalHouse$Scope") true := ⟨_, _, _, by decide, rfl, by decide, in_X7, q760, rfl, tyX7_ok, nmX7, rfl, by decide⟩
set_option maxRecDepth 100000 in
theorem owX7_init_1 : xOwn YX7_init 7 1 := ⟨rfl, _, _, rfl, rfl⟩
set_option maxRecDepth 100000 in
theorem mvJ2_size : xMv YJ2_size 28 0 := ⟨_, _, _, by decide, rfl, ⟨q2114, plainFor_of_name pnJ2, mhJ2, pd3⟩, q2112, q2113⟩
set_option maxRecDepth 100000 in
theorem pd23 : (parseMethodDescriptor "(I)Ljava/lang/Object;").map (fun s => s.parameters.length) = some 1 := by decide +kernel
set_option maxRecDepth 100000 in
theorem mvJ2_get : xMv YJ2_get 28 1 := ⟨_, _, _, by decide, rfl, ⟨q2118, plainFor_of_name pnJ2, mhJ2, pd23⟩, q2116, q2117⟩
set_option maxRecDepth 100000 in
theorem gfX7_32 : xFn RX7 32 8 1 (.object "java/lang/String") true := ⟨_, _, _, _, by decide, rfl, by decide, in_X8, List.mem_filter.mpr ⟨q968, rfl⟩, rfl, tyX8_ok, nmX8, rfl, by decide⟩
set_option maxRecDepth 100000 in
theorem pnJ6 : plainName RJ6 = true := by decide +kernel
set_option maxRecDepth 100000 in
theorem mhJ6 : RJ6 ≠ "java/lang/invoke/MethodHandle" ∧ RJ6 ≠ "java/lang/invoke/VarHandle" := by decide +kernel
set_option maxRecDepth 100000 in
theorem pd24 : (parseMethodDescriptor "(I)[B").map (fun s => s.parameters.length) = some 1 := by decide +kernel
set_option maxRecDepth 100000 in
theorem msJ6_newBytesFor : xMs YJ6_newBytesFor 1 := ⟨⟨q622, plainFor_of_name pnJ6, mhJ6, pd24⟩, q621, q388⟩
set_option maxRecDepth 100000 in
theorem fdJ3_15 : xFd RJ3 15 29 0 (.array .byte) false := ⟨_, _, _, by decide, rfl, by decide, in_J4, q627, rfl, tyJ4_ok, nmJ4, rfl, by decide⟩
set_option maxRecDepth 100000 in
theorem fdJ3_22 : xFd RJ3 22 29 1 (.byte) false := ⟨_, _, _, by decide, rfl, by decide, in_J4, q628, rfl, tyJ4_ok, nmJ4, rfl, by decide⟩
set_option maxRecDepth 100000 in
theorem fdJ3_79 : xFd RJ3 79 29 3 (.int) false := ⟨_, _, _, by decide, rfl, by decide, in_J4, q631, rfl, tyJ4_ok, nmJ4, rfl, by decide⟩
set_option maxRecDepth 100000 in
theorem pnJ3 : plainName RJ3 = true := by decide +kernel
set_option maxRecDepth 100000 in
theorem mhJ3 : RJ3 ≠ "java/lang/invoke/MethodHandle" ∧ RJ3 ≠ "java/lang/invoke/VarHandle" := by decide +kernel
set_option maxRecDepth 100000 in
theorem mpJ3_ensureCapacityInternal : xMp YJ3_ensureCapacityInternal 29 1 := ⟨_, _, _, _, _, by decide, rfl, ⟨q837, plainFor_of_name pnJ3, mhJ3, pd0⟩, q836, List.mem_filter.mpr ⟨q835, rfl⟩, q872, rfl⟩
set_option maxRecDepth 100000 in
theorem mvJ3_isLatin1 : xMv YJ3_isLatin1 29 0 := ⟨_, _, _, by decide, rfl, ⟨q873, plainFor_of_name pnJ3, mhJ3, pd6⟩, q870, q872⟩
set_option maxRecDepth 100000 in
theorem pnJ7 : plainName RJ7 = true := by decide +kernel
set_option maxRecDepth 100000 in
theorem mhJ7 : RJ7 ≠ "java/lang/invoke/MethodHandle" ∧ RJ7 ≠ "java/lang/invoke/VarHandle" := by decide +kernel
set_option maxRecDepth 100000 in
theorem pd25 : (parseMethodDescriptor "(C)Z").map (fun s => s.parameters.length) = some 1 := by decide +kernel
set_option maxRecDepth 100000 in
theorem msJ7_canEncode : xMs YJ7_canEncode 1 := ⟨⟨q876, plainFor_of_name pnJ7, mhJ7, pd25⟩, q875, q392⟩
set_option maxRecDepth 100000 in
theorem mpJ3_inflate : xMp YJ3_inflate 29 0 := ⟨_, _, _, _, _, by decide, rfl, ⟨q880, plainFor_of_name pnJ3, mhJ3, pd1⟩, q879, List.mem_filter.mpr ⟨q878, rfl⟩, q872, rfl⟩
set_option maxRecDepth 100000 in
theorem pd26 : (parseMethodDescriptor "([BII)V").map (fun s => s.parameters.length) = some 3 := by decide +kernel
set_option maxRecDepth 100000 in
theorem msJ6_putCharSB : xMs YJ6_putCharSB 3 := ⟨⟨q901, plainFor_of_name pnJ6, mhJ6, pd26⟩, q900, q388⟩
set_option maxRecDepth 100000 in
theorem mpJ3_newCapacity : xMp YJ3_newCapacity 29 1 := ⟨_, _, _, _, _, by decide, rfl, ⟨q841, plainFor_of_name pnJ3, mhJ3, pd7⟩, q840, List.mem_filter.mpr ⟨q839, rfl⟩, q872, rfl⟩
set_option maxRecDepth 100000 in
theorem pnJ11 : plainName RJ11 = true := by decide +kernel
set_option maxRecDepth 100000 in
theorem mhJ11 : RJ11 ≠ "java/lang/invoke/MethodHandle" ∧ RJ11 ≠ "java/lang/invoke/VarHandle" := by decide +kernel
set_option maxRecDepth 100000 in
theorem pd27 : (parseMethodDescriptor "([BI)[B").map (fun s => s.parameters.length) = some 2 := by decide +kernel
set_option maxRecDepth 100000 in
theorem msJ11_copyOf : xMs YJ11_copyOf 2 := ⟨⟨q855, plainFor_of_name pnJ11, mhJ11, pd27⟩, q854, q396⟩
set_option maxRecDepth 100000 in
theorem pnJ9 : plainName RJ9 = true := by decide +kernel
set_option maxRecDepth 100000 in
theorem mhJ9 : RJ9 ≠ "java/lang/invoke/MethodHandle" ∧ RJ9 ≠ "java/lang/invoke/VarHandle" := by decide +kernel
set_option maxRecDepth 100000 in
theorem pd28 : (parseMethodDescriptor "(III)I").map (fun s => s.parameters.length) = some 3 := by decide +kernel
set_option maxRecDepth 100000 in
theorem msJ9_newLength : xMs YJ9_newLength 3 := ⟨⟨q844, plainFor_of_name pnJ9, mhJ9, pd28⟩, q843, q394⟩
set_option maxRecDepth 100000 in
theorem pd29 : (parseMethodDescriptor "([BI[BII)V").map (fun s => s.parameters.length) = some 5 := by decide +kernel
set_option maxRecDepth 100000 in
theorem msJ7_inflate : xMs YJ7_inflate 5 := ⟨⟨q883, plainFor_of_name pnJ7, mhJ7, pd29⟩, q882, q392⟩
set_option maxRecDepth 100000 in
theorem fdJ3_73 : xFd RJ3 73 29 2 (.boolean) false := ⟨_, _, _, by decide, rfl, by decide, in_J4, q629, rfl, tyJ4_ok, nmJ4, rfl, by decide⟩
set_option maxRecDepth 100000 in
theorem msJ6_fillNull : xMs YJ6_fillNull 3 := ⟨⟨q1092, plainFor_of_name pnJ6, mhJ6, pd26⟩, q1091, q388⟩
set_option maxRecDepth 100000 in
theorem msJ7_fillNull : xMs YJ7_fillNull 3 := ⟨⟨q1083, plainFor_of_name pnJ7, mhJ7, pd26⟩, q1082, q392⟩
set_option maxRecDepth 100000 in
theorem fdX15_7 : xFd RX15 7 15 0 (.int) true := ⟨_, _, _, by decide, rfl, by decide, in_X15, q1753, rfl, tyX15_ok, nmX15, rfl, by decide⟩
set_option maxRecDepth 100000 in
theorem owX15_init_0 : xOwn YX15_init 15 0 := ⟨rfl, _, _, rfl, rfl⟩
set_option maxRecDepth 100000 in
theorem fdX15_13 : xFd RX15 13 15 1 (.object "PascalHouse$Symbol") true := ⟨_, _, _, by decide, rfl, by decide, in_X15, q1755, rfl, tyX15_ok, nmX15, rfl, by decide⟩
set_option maxRecDepth 100000 in
theorem owX15_init_1 : xOwn YX15_init 15 1 := ⟨rfl, _, _, rfl, rfl⟩
set_option maxRecDepth 100000 in
theorem fdX15_17 : xFd RX15 17 15 2 (.object "PascalHouse$Tree") false := ⟨_, _, _, by decide, rfl, by decide, in_X15, q1758, rfl, tyX15_ok, nmX15, rfl, by decide⟩
set_option maxRecDepth 100000 in
theorem fdX15_21 : xFd RX15 21 15 3 (.object "PascalHouse$Tree") false := ⟨_, _, _, by decide, rfl, by decide, in_X15, q1762, rfl, tyX15_ok, nmX15, rfl, by decide⟩
set_option maxRecDepth 100000 in
theorem fdX15_24 : xFd RX15 24 15 4 (.object "PascalHouse$Tree") false := ⟨_, _, _, by decide, rfl, by decide, in_X15, q1764, rfl, tyX15_ok, nmX15, rfl, by decide⟩
set_option maxRecDepth 100000 in
theorem fdX15_27 : xFd RX15 27 15 5 (.int) false := ⟨_, _, _, by decide, rfl, by decide, in_X15, q1767, rfl, tyX15_ok, nmX15, rfl, by decide⟩
set_option maxRecDepth 100000 in
theorem gfX15_35 : xFn RX15 35 14 1 (.object "java/lang/String") true := ⟨_, _, _, _, by decide, rfl, by decide, in_X14, List.mem_filter.mpr ⟨q1606, rfl⟩, rfl, tyX14_ok, nmX14, rfl, by decide⟩
set_option maxRecDepth 100000 in
theorem gfX15_30 : xFn RX15 30 14 2 (.int) true := ⟨_, _, _, _, by decide, rfl, by decide, in_X14, List.mem_filter.mpr ⟨q1610, rfl⟩, rfl, tyX14_ok, nmX14, rfl, by decide⟩
set_option maxRecDepth 100000 in
theorem pnJ8 : plainName RJ8 = true := by decide +kernel
set_option maxRecDepth 100000 in
theorem mhJ8 : RJ8 ≠ "java/lang/invoke/MethodHandle" ∧ RJ8 ≠ "java/lang/invoke/VarHandle" := by decide +kernel
set_option maxRecDepth 100000 in
theorem pd30 : (parseMethodDescriptor "(IILjava/util/function/BiFunction;)I").map (fun s => s.parameters.length) = some 3 := by decide +kernel
set_option maxRecDepth 100000 in
theorem msJ8_checkIndex : xMs YJ8_checkIndex 3 := ⟨⟨q807, plainFor_of_name pnJ8, mhJ8, pd30⟩, q806, q393⟩
set_option maxRecDepth 100000 in
theorem fdX20_7 : xFd RX20 7 20 0 (.object "java/lang/String") true := ⟨_, _, _, by decide, rfl, by decide, in_X20, q2371, rfl, tyX20_ok, nmX20, rfl, by decide⟩
set_option maxRecDepth 100000 in
theorem owX20_init_0 : xOwn YX20_init 20 0 := ⟨rfl, _, _, rfl, rfl⟩
set_option maxRecDepth 100000 in
theorem fdX20_13 : xFd RX20 13 20 1 (.object "PascalHouse$Type") true := ⟨_, _, _, by decide, rfl, by decide, in_X20, q2373, rfl, tyX20_ok, nmX20, rfl, by decide⟩
set_option maxRecDepth 100000 in
theorem owX20_init_1 : xOwn YX20_init 20 1 := ⟨rfl, _, _, rfl, rfl⟩
set_option maxRecDepth 100000 in
theorem fdX20_17 : xFd RX20 17 20 2 (.int) true := ⟨_, _, _, by decide, rfl, by decide, in_X20, q2375, rfl, tyX20_ok, nmX20, rfl, by decide⟩
set_option maxRecDepth 100000 in
theorem owX20_init_2 : xOwn YX20_init 20 2 := ⟨rfl, _, _, rfl, rfl⟩
set_option maxRecDepth 100000 in
theorem fdX20_21 : xFd RX20 21 20 4 (.object "PascalHouse$Part") true := ⟨_, _, _, by decide, rfl, by decide, in_X20, q2379, rfl, tyX20_ok, nmX20, rfl, by decide⟩
set_option maxRecDepth 100000 in
theorem owX20_init_4 : xOwn YX20_init 20 4 := ⟨rfl, _, _, rfl, rfl⟩
set_option maxRecDepth 100000 in
theorem fdX20_25 : xFd RX20 25 20 3 (.int) true := ⟨_, _, _, by decide, rfl, by decide, in_X20, q2377, rfl, tyX20_ok, nmX20, rfl, by decide⟩
set_option maxRecDepth 100000 in
theorem owX20_init_3 : xOwn YX20_init 20 3 := ⟨rfl, _, _, rfl, rfl⟩
set_option maxRecDepth 100000 in
theorem fdX12_9 : xFd RX12 9 12 1 (.array .byte) true := ⟨_, _, _, by decide, rfl, by decide, in_X12, q3252, rfl, tyX12_ok, nmX12, rfl, by decide⟩
set_option maxRecDepth 100000 in
theorem owX12_init_1 : xOwn YX12_init 12 1 := ⟨rfl, _, _, rfl, rfl⟩
set_option maxRecDepth 100000 in
theorem fdX12_13 : xFd RX12 13 12 3 (.array .byte) true := ⟨_, _, _, by decide, rfl, by decide, in_X12, q3254, rfl, tyX12_ok, nmX12, rfl, by decide⟩
set_option maxRecDepth 100000 in
theorem owX12_init_3 : xOwn YX12_init 12 3 := ⟨rfl, _, _, rfl, rfl⟩
set_option maxRecDepth 100000 in
theorem fdX12_16 : xFd RX12 16 12 5 (.array .byte) true := ⟨_, _, _, by decide, rfl, by decide, in_X12, q3256, rfl, tyX12_ok, nmX12, rfl, by decide⟩
set_option maxRecDepth 100000 in
theorem owX12_init_5 : xOwn YX12_init 12 5 := ⟨rfl, _, _, rfl, rfl⟩
set_option maxRecDepth 100000 in
theorem fdX12_19 : xFd RX12 19 12 6 (.array .int) true := ⟨_, _, _, by decide, rfl, by decide, in_X12, q3257, rfl, tyX12_ok, nmX12, rfl, by decide⟩
set_option maxRecDepth 100000 in
theorem owX12_init_6 : xOwn YX12_init 12 6 := ⟨rfl, _, _, rfl, rfl⟩
set_option maxRecDepth 100000 in
theorem fdX12_23 : xFd RX12 23 12 7 (.array .byte) true := ⟨_, _, _, by decide, rfl, by decide, in_X12, q3258, rfl, tyX12_ok, nmX12, rfl, by decide⟩
set_option maxRecDepth 100000 in
theorem owX12_init_7 : xOwn YX12_init 12 7 := ⟨rfl, _, _, rfl, rfl⟩
set_option maxRecDepth 100000 in
theorem fdX12_26 : xFd RX12 26 12 10 (.array .int) true := ⟨_, _, _, by decide, rfl, by decide, in_X12, q3261, rfl, tyX12_ok, nmX12, rfl, by decide⟩
set_option maxRecDepth 100000 in
theorem owX12_init_10 : xOwn YX12_init 12 10 := ⟨rfl, _, _, rfl, rfl⟩
set_option maxRecDepth 100000 in
theorem fdX12_29 : xFd RX12 29 12 11 (.array .int) true := ⟨_, _, _, by decide, rfl, by decide, in_X12, q3262, rfl, tyX12_ok, nmX12, rfl, by decide⟩
set_option maxRecDepth 100000 in
theorem owX12_init_11 : xOwn YX12_init 12 11 := ⟨rfl, _, _, rfl, rfl⟩
set_option maxRecDepth 100000 in
theorem fdX12_32 : xFd RX12 32 12 12 (.array .int) true := ⟨_, _, _, by decide, rfl, by decide, in_X12, q3263, rfl, tyX12_ok, nmX12, rfl, by decide⟩
set_option maxRecDepth 100000 in
theorem owX12_init_12 : xOwn YX12_init 12 12 := ⟨rfl, _, _, rfl, rfl⟩
set_option maxRecDepth 100000 in
theorem fdX12_35 : xFd RX12 35 12 13 (.array .int) true := ⟨_, _, _, by decide, rfl, by decide, in_X12, q3264, rfl, tyX12_ok, nmX12, rfl, by decide⟩
set_option maxRecDepth 100000 in
theorem owX12_init_13 : xOwn YX12_init 12 13 := ⟨rfl, _, _, rfl, rfl⟩
set_option maxRecDepth 100000 in
theorem fdX12_38 : xFd RX12 38 12 14 (.array .double) true := ⟨_, _, _, by decide, rfl, by decide, in_X12, q3265, rfl, tyX12_ok, nmX12, rfl, by decide⟩
set_option maxRecDepth 100000 in
theorem owX12_init_14 : xOwn YX12_init 12 14 := ⟨rfl, _, _, rfl, rfl⟩
set_option maxRecDepth 100000 in
theorem fdX12_42 : xFd RX12 42 12 16 (.array .byte) true := ⟨_, _, _, by decide, rfl, by decide, in_X12, q3267, rfl, tyX12_ok, nmX12, rfl, by decide⟩
set_option maxRecDepth 100000 in
theorem owX12_init_16 : xOwn YX12_init 12 16 := ⟨rfl, _, _, rfl, rfl⟩
set_option maxRecDepth 100000 in
theorem fdX12_45 : xFd RX12 45 12 18 (.array .byte) true := ⟨_, _, _, by decide, rfl, by decide, in_X12, q3269, rfl, tyX12_ok, nmX12, rfl, by decide⟩
set_option maxRecDepth 100000 in
theorem owX12_init_18 : xOwn YX12_init 12 18 := ⟨rfl, _, _, rfl, rfl⟩
set_option maxRecDepth 100000 in
theorem fdX12_48 : xFd RX12 48 12 20 (.array .int) true := ⟨_, _, _, by decide, rfl, by decide, in_X12, q3271, rfl, tyX12_ok, nmX12, rfl, by decide⟩
set_option maxRecDepth 100000 in
theorem owX12_init_20 : xOwn YX12_init 12 20 := ⟨rfl, _, _, rfl, rfl⟩
set_option maxRecDepth 100000 in
theorem fdX12_51 : xFd RX12 51 12 21 (.array .int) true := ⟨_, _, _, by decide, rfl, by decide, in_X12, q3272, rfl, tyX12_ok, nmX12, rfl, by decide⟩
set_option maxRecDepth 100000 in
theorem owX12_init_21 : xOwn YX12_init 12 21 := ⟨rfl, _, _, rfl, rfl⟩
set_option maxRecDepth 100000 in
theorem fdX12_54 : xFd RX12 54 12 22 (.array .int) true := ⟨_, _, _, by decide, rfl, by decide, in_X12, q3273, rfl, tyX12_ok, nmX12, rfl, by decide⟩
set_option maxRecDepth 100000 in
theorem owX12_init_22 : xOwn YX12_init 12 22 := ⟨rfl, _, _, rfl, rfl⟩
set_option maxRecDepth 100000 in
theorem fdX12_57 : xFd RX12 57 12 23 (.array .int) true := ⟨_, _, _, by decide, rfl, by decide, in_X12, q3274, rfl, tyX12_ok, nmX12, rfl, by decide⟩
set_option maxRecDepth 100000 in
theorem owX12_init_23 : xOwn YX12_init 12 23 := ⟨rfl, _, _, rfl, rfl⟩
set_option maxRecDepth 100000 in
theorem fdX12_60 : xFd RX12 60 12 25 (.array .byte) true := ⟨_, _, _, by decide, rfl, by decide, in_X12, q3276, rfl, tyX12_ok, nmX12, rfl, by decide⟩
set_option maxRecDepth 100000 in
theorem owX12_init_25 : xOwn YX12_init 12 25 := ⟨rfl, _, _, rfl, rfl⟩
set_option maxRecDepth 100000 in
theorem fdX12_63 : xFd RX12 63 12 28 (.int) false := ⟨_, _, _, by decide, rfl, by decide, in_X12, q3279, rfl, tyX12_ok, nmX12, rfl, by decide⟩
set_option maxRecDepth 100000 in
theorem fdX12_67 : xFd RX12 67 12 29 (.array .int) true := ⟨_, _, _, by decide, rfl, by decide, in_X12, q3280, rfl, tyX12_ok, nmX12, rfl, by decide⟩
set_option maxRecDepth 100000 in
theorem owX12_init_29 : xOwn YX12_init 12 29 := ⟨rfl, _, _, rfl, rfl⟩
set_option maxRecDepth 100000 in
theorem fdX12_70 : xFd RX12 70 12 30 (.array .int) true := ⟨_, _, _, by decide, rfl, by decide, in_X12, q3281, rfl, tyX12_ok, nmX12, rfl, by decide⟩
set_option maxRecDepth 100000 in
theorem owX12_init_30 : xOwn YX12_init 12 30 := ⟨rfl, _, _, rfl, rfl⟩
set_option maxRecDepth 100000 in
theorem fdX12_73 : xFd RX12 73 12 31 (.array .int) true := ⟨_, _, _, by decide, rfl, by decide, in_X12, q3282, rfl, tyX12_ok, nmX12, rfl, by decide⟩
set_option maxRecDepth 100000 in
theorem owX12_init_31 : xOwn YX12_init 12 31 := ⟨rfl, _, _, rfl, rfl⟩
set_option maxRecDepth 100000 in
theorem fdX12_76 : xFd RX12 76 12 32 (.array .int) true := ⟨_, _, _, by decide, rfl, by decide, in_X12, q3283, rfl, tyX12_ok, nmX12, rfl, by decide⟩
set_option maxRecDepth 100000 in
theorem owX12_init_32 : xOwn YX12_init 12 32 := ⟨rfl, _, _, rfl, rfl⟩
set_option maxRecDepth 100000 in
theorem fdX12_79 : xFd RX12 79 12 33 (.array .int) true := ⟨_, _, _, by decide, rfl, by decide, in_X12, q3284, rfl, tyX12_ok, nmX12, rfl, by decide⟩
set_option maxRecDepth 100000 in
theorem owX12_init_33 : xOwn YX12_init 12 33 := ⟨rfl, _, _, rfl, rfl⟩
set_option maxRecDepth 100000 in
theorem fdX12_82 : xFd RX12 82 12 34 (.array .int) true := ⟨_, _, _, by decide, rfl, by decide, in_X12, q3285, rfl, tyX12_ok, nmX12, rfl, by decide⟩
set_option maxRecDepth 100000 in
theorem owX12_init_34 : xOwn YX12_init 12 34 := ⟨rfl, _, _, rfl, rfl⟩
set_option maxRecDepth 100000 in
theorem fdX12_85 : xFd RX12 85 12 35 (.array .int) true := ⟨_, _, _, by decide, rfl, by decide, in_X12, q3286, rfl, tyX12_ok, nmX12, rfl, by decide⟩
set_option maxRecDepth 100000 in
theorem owX12_init_35 : xOwn YX12_init 12 35 := ⟨rfl, _, _, rfl, rfl⟩
set_option maxRecDepth 100000 in
theorem fdX12_88 : xFd RX12 88 12 36 (.array .int) true := ⟨_, _, _, by decide, rfl, by decide, in_X12, q3287, rfl, tyX12_ok, nmX12, rfl, by decide⟩
set_option maxRecDepth 100000 in
theorem owX12_init_36 : xOwn YX12_init 12 36 := ⟨rfl, _, _, rfl, rfl⟩
set_option maxRecDepth 100000 in
theorem fdX12_91 : xFd RX12 91 12 37 (.array .int) true := ⟨_, _, _, by decide, rfl, by decide, in_X12, q3288, rfl, tyX12_ok, nmX12, rfl, by decide⟩
set_option maxRecDepth 100000 in
theorem owX12_init_37 : xOwn YX12_init 12 37 := ⟨rfl, _, _, rfl, rfl⟩
set_option maxRecDepth 100000 in
theorem anX12_94 : xAd RX12 94 8 := ⟨_, by decide, rfl, q3204, by simp [xao]⟩
set_option maxRecDepth 100000 in
theorem fdX12_96 : xFd RX12 96 12 41 (.array (.object "PascalHouseModel$Type")) true := ⟨_, _, _, by decide, rfl, by decide, in_X12, q3292, rfl, tyX12_ok, nmX12, rfl, by decide⟩
set_option maxRecDepth 100000 in
theorem owX12_init_41 : xOwn YX12_init 12 41 := ⟨rfl, _, _, rfl, rfl⟩
set_option maxRecDepth 100000 in
theorem anX12_100 : xAd RX12 100 9 := ⟨_, by decide, rfl, q3206, by simp [xao]⟩
set_option maxRecDepth 100000 in
theorem fdX12_102 : xFd RX12 102 12 42 (.array (.object "PascalHouseModel$Symbol")) true := ⟨_, _, _, by decide, rfl, by decide, in_X12, q3293, rfl, tyX12_ok, nmX12, rfl, by decide⟩
set_option maxRecDepth 100000 in
theorem owX12_init_42 : xOwn YX12_init 12 42 := ⟨rfl, _, _, rfl, rfl⟩
set_option maxRecDepth 100000 in
theorem cdX12_94 : xCd RX12 94 13 8 := ⟨_, _, _, by decide, rfl, in_X13, tyX13_ok, q3204, q3208, q403⟩
set_option maxRecDepth 100000 in
theorem miX13_init : xMi YX13_init 1 := ⟨⟨q3211, plainFor_of_name pnX13, mhX13, pd0⟩, q3210, rfl, rfl, rfl⟩
set_option maxRecDepth 100000 in
theorem fdX12_109 : xFd RX12 109 12 43 (.object "PascalHouseModel$Type") true := ⟨_, _, _, by decide, rfl, by decide, in_X12, q3294, rfl, tyX12_ok, nmX12, rfl, by decide⟩
set_option maxRecDepth 100000 in
theorem owX12_init_43 : xOwn YX12_init 12 43 := ⟨rfl, _, _, rfl, rfl⟩
set_option maxRecDepth 100000 in
theorem fdX12_113 : xFd RX12 113 12 44 (.object "PascalHouseModel$Type") true := ⟨_, _, _, by decide, rfl, by decide, in_X12, q3295, rfl, tyX12_ok, nmX12, rfl, by decide⟩
set_option maxRecDepth 100000 in
theorem owX12_init_44 : xOwn YX12_init 12 44 := ⟨rfl, _, _, rfl, rfl⟩
set_option maxRecDepth 100000 in
theorem fdX12_116 : xFd RX12 116 12 45 (.object "PascalHouseModel$Type") true := ⟨_, _, _, by decide, rfl, by decide, in_X12, q3296, rfl, tyX12_ok, nmX12, rfl, by decide⟩
set_option maxRecDepth 100000 in
theorem owX12_init_45 : xOwn YX12_init 12 45 := ⟨rfl, _, _, rfl, rfl⟩
set_option maxRecDepth 100000 in
theorem fdX12_119 : xFd RX12 119 12 46 (.object "PascalHouseModel$Type") true := ⟨_, _, _, by decide, rfl, by decide, in_X12, q3297, rfl, tyX12_ok, nmX12, rfl, by decide⟩
set_option maxRecDepth 100000 in
theorem owX12_init_46 : xOwn YX12_init 12 46 := ⟨rfl, _, _, rfl, rfl⟩
set_option maxRecDepth 100000 in
theorem fdX12_122 : xFd RX12 122 12 47 (.object "PascalHouseModel$Type") true := ⟨_, _, _, by decide, rfl, by decide, in_X12, q3298, rfl, tyX12_ok, nmX12, rfl, by decide⟩
set_option maxRecDepth 100000 in
theorem owX12_init_47 : xOwn YX12_init 12 47 := ⟨rfl, _, _, rfl, rfl⟩
set_option maxRecDepth 100000 in
theorem fdX12_125 : xFd RX12 125 12 48 (.object "PascalHouseModel$Type") true := ⟨_, _, _, by decide, rfl, by decide, in_X12, q3299, rfl, tyX12_ok, nmX12, rfl, by decide⟩
set_option maxRecDepth 100000 in
theorem owX12_init_48 : xOwn YX12_init 12 48 := ⟨rfl, _, _, rfl, rfl⟩
set_option maxRecDepth 100000 in
theorem fdX12_128 : xFd RX12 128 12 49 (.object "PascalHouseModel$Type") true := ⟨_, _, _, by decide, rfl, by decide, in_X12, q3300, rfl, tyX12_ok, nmX12, rfl, by decide⟩
set_option maxRecDepth 100000 in
theorem owX12_init_49 : xOwn YX12_init 12 49 := ⟨rfl, _, _, rfl, rfl⟩
set_option maxRecDepth 100000 in
theorem cdX12_131 : xCd RX12 131 28 3 := ⟨_, _, _, by decide, rfl, in_J2, tyJ2_ok, q3245, q501, q382⟩
set_option maxRecDepth 100000 in
theorem miJ2_init_2 : xMi YJ2_init_2 0 := ⟨⟨q3248, plainFor_of_name pnJ2, mhJ2, pd1⟩, q3247, rfl, rfl, rfl⟩
set_option maxRecDepth 100000 in
theorem fdX12_134 : xFd RX12 134 12 50 (.object "java/util/ArrayList") true := ⟨_, _, _, by decide, rfl, by decide, in_X12, q3301, rfl, tyX12_ok, nmX12, rfl, by decide⟩
set_option maxRecDepth 100000 in
theorem owX12_init_50 : xOwn YX12_init 12 50 := ⟨rfl, _, _, rfl, rfl⟩
set_option maxRecDepth 100000 in
theorem fdX12_138 : xFd RX12 138 12 51 (.array .int) true := ⟨_, _, _, by decide, rfl, by decide, in_X12, q3302, rfl, tyX12_ok, nmX12, rfl, by decide⟩
set_option maxRecDepth 100000 in
theorem owX12_init_51 : xOwn YX12_init 12 51 := ⟨rfl, _, _, rfl, rfl⟩
set_option maxRecDepth 100000 in
theorem fdX12_141 : xFd RX12 141 12 54 (.object "java/util/ArrayList") true := ⟨_, _, _, by decide, rfl, by decide, in_X12, q3305, rfl, tyX12_ok, nmX12, rfl, by decide⟩
set_option maxRecDepth 100000 in
theorem owX12_init_54 : xOwn YX12_init 12 54 := ⟨rfl, _, _, rfl, rfl⟩
set_option maxRecDepth 100000 in
theorem fdX12_144 : xFd RX12 144 12 55 (.object "java/util/ArrayList") true := ⟨_, _, _, by decide, rfl, by decide, in_X12, q3306, rfl, tyX12_ok, nmX12, rfl, by decide⟩
set_option maxRecDepth 100000 in
theorem owX12_init_55 : xOwn YX12_init 12 55 := ⟨rfl, _, _, rfl, rfl⟩
set_option maxRecDepth 100000 in
theorem fdX12_147 : xFd RX12 147 12 56 (.object "java/util/ArrayList") true := ⟨_, _, _, by decide, rfl, by decide, in_X12, q3307, rfl, tyX12_ok, nmX12, rfl, by decide⟩
set_option maxRecDepth 100000 in
theorem owX12_init_56 : xOwn YX12_init 12 56 := ⟨rfl, _, _, rfl, rfl⟩
set_option maxRecDepth 100000 in
theorem fdX12_150 : xFd RX12 150 12 60 (.object "java/util/ArrayList") true := ⟨_, _, _, by decide, rfl, by decide, in_X12, q3311, rfl, tyX12_ok, nmX12, rfl, by decide⟩
set_option maxRecDepth 100000 in
theorem owX12_init_60 : xOwn YX12_init 12 60 := ⟨rfl, _, _, rfl, rfl⟩
set_option maxRecDepth 100000 in
theorem fdX12_153 : xFd RX12 153 12 61 (.array .int) true := ⟨_, _, _, by decide, rfl, by decide, in_X12, q3312, rfl, tyX12_ok, nmX12, rfl, by decide⟩
set_option maxRecDepth 100000 in
theorem owX12_init_61 : xOwn YX12_init 12 61 := ⟨rfl, _, _, rfl, rfl⟩
set_option maxRecDepth 100000 in
theorem fdX12_156 : xFd RX12 156 12 74 (.object "java/util/ArrayList") true := ⟨_, _, _, by decide, rfl, by decide, in_X12, q3325, rfl, tyX12_ok, nmX12, rfl, by decide⟩
set_option maxRecDepth 100000 in
theorem owX12_init_74 : xOwn YX12_init 12 74 := ⟨rfl, _, _, rfl, rfl⟩
set_option maxRecDepth 100000 in
theorem fdX12_159 : xFd RX12 159 12 75 (.array .long) true := ⟨_, _, _, by decide, rfl, by decide, in_X12, q3326, rfl, tyX12_ok, nmX12, rfl, by decide⟩
set_option maxRecDepth 100000 in
theorem owX12_init_75 : xOwn YX12_init 12 75 := ⟨rfl, _, _, rfl, rfl⟩
set_option maxRecDepth 100000 in
theorem fdX12_163 : xFd RX12 163 12 76 (.array .long) true := ⟨_, _, _, by decide, rfl, by decide, in_X12, q3327, rfl, tyX12_ok, nmX12, rfl, by decide⟩
set_option maxRecDepth 100000 in
theorem owX12_init_76 : xOwn YX12_init 12 76 := ⟨rfl, _, _, rfl, rfl⟩
set_option maxRecDepth 100000 in
theorem fdX12_166 : xFd RX12 166 12 77 (.array .double) true := ⟨_, _, _, by decide, rfl, by decide, in_X12, q3328, rfl, tyX12_ok, nmX12, rfl, by decide⟩
set_option maxRecDepth 100000 in
theorem owX12_init_77 : xOwn YX12_init 12 77 := ⟨rfl, _, _, rfl, rfl⟩
set_option maxRecDepth 100000 in
theorem fdX12_169 : xFd RX12 169 12 78 (.array .boolean) true := ⟨_, _, _, by decide, rfl, by decide, in_X12, q3329, rfl, tyX12_ok, nmX12, rfl, by decide⟩
set_option maxRecDepth 100000 in
theorem owX12_init_78 : xOwn YX12_init 12 78 := ⟨rfl, _, _, rfl, rfl⟩
set_option maxRecDepth 100000 in
theorem fdX12_173 : xFd RX12 173 12 82 (.array .int) true := ⟨_, _, _, by decide, rfl, by decide, in_X12, q3333, rfl, tyX12_ok, nmX12, rfl, by decide⟩
set_option maxRecDepth 100000 in
theorem owX12_init_82 : xOwn YX12_init 12 82 := ⟨rfl, _, _, rfl, rfl⟩
set_option maxRecDepth 100000 in
theorem fdX12_176 : xFd RX12 176 12 83 (.array .boolean) true := ⟨_, _, _, by decide, rfl, by decide, in_X12, q3334, rfl, tyX12_ok, nmX12, rfl, by decide⟩
set_option maxRecDepth 100000 in
theorem owX12_init_83 : xOwn YX12_init 12 83 := ⟨rfl, _, _, rfl, rfl⟩
set_option maxRecDepth 100000 in
theorem fdX12_179 : xFd RX12 179 12 86 (.array .int) true := ⟨_, _, _, by decide, rfl, by decide, in_X12, q3337, rfl, tyX12_ok, nmX12, rfl, by decide⟩
set_option maxRecDepth 100000 in
theorem owX12_init_86 : xOwn YX12_init 12 86 := ⟨rfl, _, _, rfl, rfl⟩
set_option maxRecDepth 100000 in
theorem fdX12_182 : xFd RX12 182 12 87 (.array .int) true := ⟨_, _, _, by decide, rfl, by decide, in_X12, q3338, rfl, tyX12_ok, nmX12, rfl, by decide⟩
set_option maxRecDepth 100000 in
theorem owX12_init_87 : xOwn YX12_init 12 87 := ⟨rfl, _, _, rfl, rfl⟩
set_option maxRecDepth 100000 in
theorem fdX12_185 : xFd RX12 185 12 88 (.array .int) true := ⟨_, _, _, by decide, rfl, by decide, in_X12, q3339, rfl, tyX12_ok, nmX12, rfl, by decide⟩
set_option maxRecDepth 100000 in
theorem owX12_init_88 : xOwn YX12_init 12 88 := ⟨rfl, _, _, rfl, rfl⟩
set_option maxRecDepth 100000 in
theorem fdX12_188 : xFd RX12 188 12 89 (.array .int) true := ⟨_, _, _, by decide, rfl, by decide, in_X12, q3340, rfl, tyX12_ok, nmX12, rfl, by decide⟩
set_option maxRecDepth 100000 in
theorem owX12_init_89 : xOwn YX12_init 12 89 := ⟨rfl, _, _, rfl, rfl⟩
set_option maxRecDepth 100000 in
theorem fdX12_191 : xFd RX12 191 12 90 (.array .int) true := ⟨_, _, _, by decide, rfl, by decide, in_X12, q3341, rfl, tyX12_ok, nmX12, rfl, by decide⟩
set_option maxRecDepth 100000 in
theorem owX12_init_90 : xOwn YX12_init 12 90 := ⟨rfl, _, _, rfl, rfl⟩
set_option maxRecDepth 100000 in
theorem fdX12_195 : xFd RX12 195 12 94 (.array .long) true := ⟨_, _, _, by decide, rfl, by decide, in_X12, q3345, rfl, tyX12_ok, nmX12, rfl, by decide⟩
set_option maxRecDepth 100000 in
theorem owX12_init_94 : xOwn YX12_init 12 94 := ⟨rfl, _, _, rfl, rfl⟩
set_option maxRecDepth 100000 in
theorem fdX12_198 : xFd RX12 198 12 95 (.array .long) true := ⟨_, _, _, by decide, rfl, by decide, in_X12, q3346, rfl, tyX12_ok, nmX12, rfl, by decide⟩
set_option maxRecDepth 100000 in
theorem owX12_init_95 : xOwn YX12_init 12 95 := ⟨rfl, _, _, rfl, rfl⟩
set_option maxRecDepth 100000 in
theorem fdX12_201 : xFd RX12 201 12 96 (.array .double) true := ⟨_, _, _, by decide, rfl, by decide, in_X12, q3347, rfl, tyX12_ok, nmX12, rfl, by decide⟩
set_option maxRecDepth 100000 in
theorem owX12_init_96 : xOwn YX12_init 12 96 := ⟨rfl, _, _, rfl, rfl⟩
set_option maxRecDepth 100000 in
theorem fdX12_204 : xFd RX12 204 12 110 (.array .int) true := ⟨_, _, _, by decide, rfl, by decide, in_X12, q3361, rfl, tyX12_ok, nmX12, rfl, by decide⟩
set_option maxRecDepth 100000 in
theorem owX12_init_110 : xOwn YX12_init 12 110 := ⟨rfl, _, _, rfl, rfl⟩
set_option maxRecDepth 100000 in
theorem fdX12_207 : xFd RX12 207 12 111 (.array .int) true := ⟨_, _, _, by decide, rfl, by decide, in_X12, q3362, rfl, tyX12_ok, nmX12, rfl, by decide⟩
set_option maxRecDepth 100000 in
theorem owX12_init_111 : xOwn YX12_init 12 111 := ⟨rfl, _, _, rfl, rfl⟩
set_option maxRecDepth 100000 in
theorem fdX12_210 : xFd RX12 210 12 112 (.array .int) true := ⟨_, _, _, by decide, rfl, by decide, in_X12, q3363, rfl, tyX12_ok, nmX12, rfl, by decide⟩
set_option maxRecDepth 100000 in
theorem owX12_init_112 : xOwn YX12_init 12 112 := ⟨rfl, _, _, rfl, rfl⟩
set_option maxRecDepth 100000 in
theorem fdX12_213 : xFd RX12 213 12 113 (.array .int) true := ⟨_, _, _, by decide, rfl, by decide, in_X12, q3364, rfl, tyX12_ok, nmX12, rfl, by decide⟩
set_option maxRecDepth 100000 in
theorem owX12_init_113 : xOwn YX12_init 12 113 := ⟨rfl, _, _, rfl, rfl⟩
set_option maxRecDepth 100000 in
theorem fdX12_216 : xFd RX12 216 12 114 (.array .int) true := ⟨_, _, _, by decide, rfl, by decide, in_X12, q3365, rfl, tyX12_ok, nmX12, rfl, by decide⟩
set_option maxRecDepth 100000 in
theorem owX12_init_114 : xOwn YX12_init 12 114 := ⟨rfl, _, _, rfl, rfl⟩
set_option maxRecDepth 100000 in
theorem fdX12_219 : xFd RX12 219 12 115 (.array .int) true := ⟨_, _, _, by decide, rfl, by decide, in_X12, q3366, rfl, tyX12_ok, nmX12, rfl, by decide⟩
set_option maxRecDepth 100000 in
theorem owX12_init_115 : xOwn YX12_init 12 115 := ⟨rfl, _, _, rfl, rfl⟩
set_option maxRecDepth 100000 in
theorem fdX12_222 : xFd RX12 222 12 116 (.array .boolean) true := ⟨_, _, _, by decide, rfl, by decide, in_X12, q3367, rfl, tyX12_ok, nmX12, rfl, by decide⟩
set_option maxRecDepth 100000 in
theorem owX12_init_116 : xOwn YX12_init 12 116 := ⟨rfl, _, _, rfl, rfl⟩
set_option maxRecDepth 100000 in
theorem fdX12_225 : xFd RX12 225 12 117 (.array (.object "PascalHouseModel$Type")) true := ⟨_, _, _, by decide, rfl, by decide, in_X12, q3368, rfl, tyX12_ok, nmX12, rfl, by decide⟩
set_option maxRecDepth 100000 in
theorem owX12_init_117 : xOwn YX12_init 12 117 := ⟨rfl, _, _, rfl, rfl⟩
set_option maxRecDepth 100000 in
theorem fdX12_229 : xFd RX12 229 12 120 (.array .long) true := ⟨_, _, _, by decide, rfl, by decide, in_X12, q3371, rfl, tyX12_ok, nmX12, rfl, by decide⟩
set_option maxRecDepth 100000 in
theorem owX12_init_120 : xOwn YX12_init 12 120 := ⟨rfl, _, _, rfl, rfl⟩
set_option maxRecDepth 100000 in
theorem fdX12_232 : xFd RX12 232 12 121 (.array .long) true := ⟨_, _, _, by decide, rfl, by decide, in_X12, q3372, rfl, tyX12_ok, nmX12, rfl, by decide⟩
set_option maxRecDepth 100000 in
theorem owX12_init_121 : xOwn YX12_init 12 121 := ⟨rfl, _, _, rfl, rfl⟩
set_option maxRecDepth 100000 in
theorem fdX12_235 : xFd RX12 235 12 122 (.array .double) true := ⟨_, _, _, by decide, rfl, by decide, in_X12, q3373, rfl, tyX12_ok, nmX12, rfl, by decide⟩
set_option maxRecDepth 100000 in
theorem owX12_init_122 : xOwn YX12_init 12 122 := ⟨rfl, _, _, rfl, rfl⟩
set_option maxRecDepth 100000 in
theorem fdX12_238 : xFd RX12 238 12 123 (.array .boolean) true := ⟨_, _, _, by decide, rfl, by decide, in_X12, q3374, rfl, tyX12_ok, nmX12, rfl, by decide⟩
set_option maxRecDepth 100000 in
theorem owX12_init_123 : xOwn YX12_init 12 123 := ⟨rfl, _, _, rfl, rfl⟩
set_option maxRecDepth 100000 in
theorem fdX12_241 : xFd RX12 241 12 124 (.array .int) true := ⟨_, _, _, by decide, rfl, by decide, in_X12, q3375, rfl, tyX12_ok, nmX12, rfl, by decide⟩
set_option maxRecDepth 100000 in
theorem owX12_init_124 : xOwn YX12_init 12 124 := ⟨rfl, _, _, rfl, rfl⟩
set_option maxRecDepth 100000 in
theorem fdX12_244 : xFd RX12 244 12 127 (.array .int) true := ⟨_, _, _, by decide, rfl, by decide, in_X12, q3378, rfl, tyX12_ok, nmX12, rfl, by decide⟩
set_option maxRecDepth 100000 in
theorem owX12_init_127 : xOwn YX12_init 12 127 := ⟨rfl, _, _, rfl, rfl⟩
set_option maxRecDepth 100000 in
theorem fdX12_247 : xFd RX12 247 12 130 (.array .int) true := ⟨_, _, _, by decide, rfl, by decide, in_X12, q3381, rfl, tyX12_ok, nmX12, rfl, by decide⟩
set_option maxRecDepth 100000 in
theorem owX12_init_130 : xOwn YX12_init 12 130 := ⟨rfl, _, _, rfl, rfl⟩
set_option maxRecDepth 100000 in
theorem fdX12_250 : xFd RX12 250 12 0 (.int) false := ⟨_, _, _, by decide, rfl, by decide, in_X12, q3251, rfl, tyX12_ok, nmX12, rfl, by decide⟩
set_option maxRecDepth 100000 in
theorem fdX12_253 : xFd RX12 253 12 2 (.int) false := ⟨_, _, _, by decide, rfl, by decide, in_X12, q3253, rfl, tyX12_ok, nmX12, rfl, by decide⟩
set_option maxRecDepth 100000 in
theorem fdX12_256 : xFd RX12 256 12 4 (.int) false := ⟨_, _, _, by decide, rfl, by decide, in_X12, q3255, rfl, tyX12_ok, nmX12, rfl, by decide⟩
set_option maxRecDepth 100000 in
theorem fdX12_1092 : xFd RX12 1092 12 70 (.boolean) false := ⟨_, _, _, by decide, rfl, by decide, in_X12, q3321, rfl, tyX12_ok, nmX12, rfl, by decide⟩
set_option maxRecDepth 100000 in
theorem fdX12_1095 : xFd RX12 1095 12 71 (.boolean) false := ⟨_, _, _, by decide, rfl, by decide, in_X12, q3322, rfl, tyX12_ok, nmX12, rfl, by decide⟩
set_option maxRecDepth 100000 in
theorem fdX12_259 : xFd RX12 259 12 27 (.int) false := ⟨_, _, _, by decide, rfl, by decide, in_X12, q3278, rfl, tyX12_ok, nmX12, rfl, by decide⟩
set_option maxRecDepth 100000 in
theorem mhJ10 : RJ10 ≠ "java/lang/invoke/MethodHandle" ∧ RJ10 ≠ "java/lang/invoke/VarHandle" := by decide +kernel
set_option maxRecDepth 100000 in
theorem pd31 : (parseMethodDescriptor "(II)I").map (fun s => s.parameters.length) = some 2 := by decide +kernel
set_option maxRecDepth 100000 in
theorem msJ10_min : xMs YJ10_min 2 := ⟨⟨q865, by decide +kernel, mhJ10, pd31⟩, q864, q395⟩
set_option maxRecDepth 100000 in
theorem fdX12_266 : xFd RX12 266 12 8 (.int) false := ⟨_, _, _, by decide, rfl, by decide, in_X12, q3259, rfl, tyX12_ok, nmX12, rfl, by decide⟩
set_option maxRecDepth 100000 in
theorem fdX12_269 : xFd RX12 269 12 9 (.int) false := ⟨_, _, _, by decide, rfl, by decide, in_X12, q3260, rfl, tyX12_ok, nmX12, rfl, by decide⟩
set_option maxRecDepth 100000 in
theorem fdX12_378 : xFd RX12 378 12 15 (.int) false := ⟨_, _, _, by decide, rfl, by decide, in_X12, q3266, rfl, tyX12_ok, nmX12, rfl, by decide⟩
set_option maxRecDepth 100000 in
theorem fdX12_411 : xFd RX12 411 12 17 (.int) false := ⟨_, _, _, by decide, rfl, by decide, in_X12, q3268, rfl, tyX12_ok, nmX12, rfl, by decide⟩
set_option maxRecDepth 100000 in
theorem fdX12_433 : xFd RX12 433 12 38 (.int) false := ⟨_, _, _, by decide, rfl, by decide, in_X12, q3289, rfl, tyX12_ok, nmX12, rfl, by decide⟩
set_option maxRecDepth 100000 in
theorem fdX12_451 : xFd RX12 451 12 39 (.int) false := ⟨_, _, _, by decide, rfl, by decide, in_X12, q3290, rfl, tyX12_ok, nmX12, rfl, by decide⟩
set_option maxRecDepth 100000 in
theorem fdX12_727 : xFd RX12 727 12 57 (.object "PascalHouseModel$Symbol") false := ⟨_, _, _, by decide, rfl, by decide, in_X12, q3308, rfl, tyX12_ok, nmX12, rfl, by decide⟩
set_option maxRecDepth 100000 in
theorem fdX12_731 : xFd RX12 731 12 58 (.object "PascalHouseModel$Symbol") false := ⟨_, _, _, by decide, rfl, by decide, in_X12, q3309, rfl, tyX12_ok, nmX12, rfl, by decide⟩
set_option maxRecDepth 100000 in
theorem fdX12_773 : xFd RX12 773 12 59 (.boolean) false := ⟨_, _, _, by decide, rfl, by decide, in_X12, q3310, rfl, tyX12_ok, nmX12, rfl, by decide⟩
set_option maxRecDepth 100000 in
theorem fdX12_805 : xFd RX12 805 12 52 (.int) false := ⟨_, _, _, by decide, rfl, by decide, in_X12, q3303, rfl, tyX12_ok, nmX12, rfl, by decide⟩
set_option maxRecDepth 100000 in
theorem fdX12_926 : xFd RX12 926 12 62 (.int) false := ⟨_, _, _, by decide, rfl, by decide, in_X12, q3313, rfl, tyX12_ok, nmX12, rfl, by decide⟩
set_option maxRecDepth 100000 in
theorem pnX12 : plainName RX12 = true := by decide +kernel
set_option maxRecDepth 100000 in
theorem mhX12 : RX12 ≠ "java/lang/invoke/MethodHandle" ∧ RX12 ≠ "java/lang/invoke/VarHandle" := by decide +kernel
set_option maxRecDepth 100000 in
theorem mvX12_blankNames : xMv YX12_blankNames 12 0 := ⟨_, _, _, by decide, rfl, ⟨q3667, plainFor_of_name pnX12, mhX12, pd1⟩, q3666, qs197⟩
set_option maxRecDepth 100000 in
theorem srX12_1103 : ∃ t, xstrs[176]? = some (RX12, 1103, t, 67) := ⟨_, rfl⟩
set_option maxRecDepth 100000 in
theorem pd32 : (parseMethodDescriptor "(Ljava/lang/String;)I").map (fun s => s.parameters.length) = some 1 := by decide +kernel
set_option maxRecDepth 100000 in
theorem mvX12_nameOf : xMv YX12_nameOf 12 1 := ⟨_, _, _, by decide, rfl, ⟨q3709, plainFor_of_name pnX12, mhX12, pd32⟩, q3708, qs198⟩
set_option maxRecDepth 100000 in
theorem fdX12_509 : xFd RX12 509 12 40 (.int) false := ⟨_, _, _, by decide, rfl, by decide, in_X12, q3291, rfl, tyX12_ok, nmX12, rfl, by decide⟩
set_option maxRecDepth 100000 in
theorem mvX12_read : xMv YX12_read 12 0 := ⟨_, _, _, by decide, rfl, ⟨q3720, plainFor_of_name pnX12, mhX12, pd1⟩, q3719, qs200⟩
set_option maxRecDepth 100000 in
theorem mvX12_parseProgram : xMv YX12_parseProgram 12 0 := ⟨_, _, _, by decide, rfl, ⟨q3777, plainFor_of_name pnX12, mhX12, pd3⟩, q3776, qs208⟩
set_option maxRecDepth 100000 in
theorem fdX12_1107 : xFd RX12 1107 12 72 (.int) false := ⟨_, _, _, by decide, rfl, by decide, in_X12, q3323, rfl, tyX12_ok, nmX12, rfl, by decide⟩
set_option maxRecDepth 100000 in
theorem fdX12_1110 : xFd RX12 1110 12 73 (.int) false := ⟨_, _, _, by decide, rfl, by decide, in_X12, q3324, rfl, tyX12_ok, nmX12, rfl, by decide⟩
set_option maxRecDepth 100000 in
theorem mvX12_bringAll : xMv YX12_bringAll 12 0 := ⟨_, _, _, by decide, rfl, ⟨q3925, plainFor_of_name pnX12, mhX12, pd1⟩, q3924, qs245⟩
set_option maxRecDepth 100000 in
theorem mvX12_checkProgram : xMv YX12_checkProgram 12 1 := ⟨_, _, _, by decide, rfl, ⟨q4071, plainFor_of_name pnX12, mhX12, pd0⟩, q4070, qs248⟩
set_option maxRecDepth 100000 in
theorem fdX12_283 : xFd RX12 283 12 24 (.int) false := ⟨_, _, _, by decide, rfl, by decide, in_X12, q3275, rfl, tyX12_ok, nmX12, rfl, by decide⟩
set_option maxRecDepth 100000 in
theorem fdX12_286 : xFd RX12 286 12 19 (.int) false := ⟨_, _, _, by decide, rfl, by decide, in_X12, q3270, rfl, tyX12_ok, nmX12, rfl, by decide⟩
set_option maxRecDepth 100000 in
theorem pd33 : (parseMethodDescriptor "(I)Ljava/lang/String;").map (fun s => s.parameters.length) = some 1 := by decide +kernel
set_option maxRecDepth 100000 in
theorem msX12_reserved : xMs YX12_reserved 1 := ⟨⟨q3670, plainFor_of_name pnX12, mhX12, pd33⟩, q3669, q402⟩
set_option maxRecDepth 100000 in
theorem srX12_301 : ∃ t, xstrs[141]? = some (RX12, 301, t, 0) := ⟨_, rfl⟩
set_option maxRecDepth 100000 in
theorem srX12_303 : ∃ t, xstrs[142]? = some (RX12, 303, t, 1) := ⟨_, rfl⟩
set_option maxRecDepth 100000 in
theorem srX12_305 : ∃ t, xstrs[143]? = some (RX12, 305, t, 2) := ⟨_, rfl⟩
set_option maxRecDepth 100000 in
theorem srX12_307 : ∃ t, xstrs[144]? = some (RX12, 307, t, 3) := ⟨_, rfl⟩
set_option maxRecDepth 100000 in
theorem srX12_309 : ∃ t, xstrs[145]? = some (RX12, 309, t, 4) := ⟨_, rfl⟩
set_option maxRecDepth 100000 in
theorem srX12_311 : ∃ t, xstrs[146]? = some (RX12, 311, t, 5) := ⟨_, rfl⟩
set_option maxRecDepth 100000 in
theorem srX12_313 : ∃ t, xstrs[147]? = some (RX12, 313, t, 6) := ⟨_, rfl⟩
set_option maxRecDepth 100000 in
theorem srX12_315 : ∃ t, xstrs[148]? = some (RX12, 315, t, 7) := ⟨_, rfl⟩
set_option maxRecDepth 100000 in
theorem srX12_317 : ∃ t, xstrs[149]? = some (RX12, 317, t, 8) := ⟨_, rfl⟩
set_option maxRecDepth 100000 in
theorem srX12_319 : ∃ t, xstrs[150]? = some (RX12, 319, t, 9) := ⟨_, rfl⟩
set_option maxRecDepth 100000 in
theorem srX12_321 : ∃ t, xstrs[151]? = some (RX12, 321, t, 10) := ⟨_, rfl⟩
set_option maxRecDepth 100000 in
theorem srX12_323 : ∃ t, xstrs[152]? = some (RX12, 323, t, 11) := ⟨_, rfl⟩
set_option maxRecDepth 100000 in
theorem srX12_325 : ∃ t, xstrs[153]? = some (RX12, 325, t, 12) := ⟨_, rfl⟩
set_option maxRecDepth 100000 in
theorem srX12_327 : ∃ t, xstrs[154]? = some (RX12, 327, t, 13) := ⟨_, rfl⟩
set_option maxRecDepth 100000 in
theorem srX12_329 : ∃ t, xstrs[155]? = some (RX12, 329, t, 14) := ⟨_, rfl⟩
set_option maxRecDepth 100000 in
theorem srX12_331 : ∃ t, xstrs[156]? = some (RX12, 331, t, 15) := ⟨_, rfl⟩
set_option maxRecDepth 100000 in
theorem srX12_333 : ∃ t, xstrs[157]? = some (RX12, 333, t, 16) := ⟨_, rfl⟩
set_option maxRecDepth 100000 in
theorem srX12_335 : ∃ t, xstrs[158]? = some (RX12, 335, t, 17) := ⟨_, rfl⟩
set_option maxRecDepth 100000 in
theorem srX12_337 : ∃ t, xstrs[159]? = some (RX12, 337, t, 18) := ⟨_, rfl⟩
set_option maxRecDepth 100000 in
theorem srX12_338 : ∃ t, xstrs[160]? = some (RX12, 338, t, 19) := ⟨_, rfl⟩
set_option maxRecDepth 100000 in
theorem srX12_340 : ∃ t, xstrs[161]? = some (RX12, 340, t, 20) := ⟨_, rfl⟩
set_option maxRecDepth 100000 in
theorem srX12_342 : ∃ t, xstrs[162]? = some (RX12, 342, t, 21) := ⟨_, rfl⟩
set_option maxRecDepth 100000 in
theorem srX12_344 : ∃ t, xstrs[163]? = some (RX12, 344, t, 22) := ⟨_, rfl⟩
set_option maxRecDepth 100000 in
theorem srX12_346 : ∃ t, xstrs[164]? = some (RX12, 346, t, 23) := ⟨_, rfl⟩
set_option maxRecDepth 100000 in
theorem srX12_348 : ∃ t, xstrs[165]? = some (RX12, 348, t, 24) := ⟨_, rfl⟩
set_option maxRecDepth 100000 in
theorem srX12_350 : ∃ t, xstrs[166]? = some (RX12, 350, t, 25) := ⟨_, rfl⟩
set_option maxRecDepth 100000 in
theorem srX12_352 : ∃ t, xstrs[167]? = some (RX12, 352, t, 26) := ⟨_, rfl⟩
set_option maxRecDepth 100000 in
theorem srX12_354 : ∃ t, xstrs[168]? = some (RX12, 354, t, 27) := ⟨_, rfl⟩
set_option maxRecDepth 100000 in
theorem srX12_356 : ∃ t, xstrs[169]? = some (RX12, 356, t, 28) := ⟨_, rfl⟩
set_option maxRecDepth 100000 in
theorem srX12_358 : ∃ t, xstrs[170]? = some (RX12, 358, t, 29) := ⟨_, rfl⟩
set_option maxRecDepth 100000 in
theorem srX12_360 : ∃ t, xstrs[171]? = some (RX12, 360, t, 30) := ⟨_, rfl⟩
set_option maxRecDepth 100000 in
theorem srX12_362 : ∃ t, xstrs[172]? = some (RX12, 362, t, 31) := ⟨_, rfl⟩
set_option maxRecDepth 100000 in
theorem srX12_364 : ∃ t, xstrs[173]? = some (RX12, 364, t, 32) := ⟨_, rfl⟩
set_option maxRecDepth 100000 in
theorem srX12_366 : ∃ t, xstrs[174]? = some (RX12, 366, t, 33) := ⟨_, rfl⟩
set_option maxRecDepth 100000 in
theorem srX12_368 : ∃ t, xstrs[175]? = some (RX12, 368, t, 34) := ⟨_, rfl⟩
set_option maxRecDepth 100000 in
theorem fdX12_280 : xFd RX12 280 12 26 (.int) false := ⟨_, _, _, by decide, rfl, by decide, in_X12, q3277, rfl, tyX12_ok, nmX12, rfl, by decide⟩
set_option maxRecDepth 100000 in
theorem mvX12_named : xMv YX12_named 12 0 := ⟨_, _, _, by decide, rfl, ⟨q3715, plainFor_of_name pnX12, mhX12, pd3⟩, q3714, qs199⟩
set_option maxRecDepth 100000 in
theorem mvX12_skip : xMv YX12_skip 12 0 := ⟨_, _, _, by decide, rfl, ⟨q3724, plainFor_of_name pnX12, mhX12, pd1⟩, q3723, qs201⟩
set_option maxRecDepth 100000 in
theorem mvX12_byteAt : xMv YX12_byteAt 12 1 := ⟨_, _, _, by decide, rfl, ⟨q3728, plainFor_of_name pnX12, mhX12, pd7⟩, q3727, qs202⟩
set_option maxRecDepth 100000 in
theorem pd34 : (parseMethodDescriptor "(I)Z").map (fun s => s.parameters.length) = some 1 := by decide +kernel
set_option maxRecDepth 100000 in
theorem msX12_isLetter : xMs YX12_isLetter 1 := ⟨⟨q3741, plainFor_of_name pnX12, mhX12, pd34⟩, q3740, q402⟩
set_option maxRecDepth 100000 in
theorem msX12_isDigit : xMs YX12_isDigit 1 := ⟨⟨q3744, plainFor_of_name pnX12, mhX12, pd34⟩, q3743, q402⟩
set_option maxRecDepth 100000 in
theorem msX12_twofold : xMs YX12_twofold 2 := ⟨⟨q3770, plainFor_of_name pnX12, mhX12, pd31⟩, q3769, q402⟩
set_option maxRecDepth 100000 in
theorem msX12_alone : xMs YX12_alone 1 := ⟨⟨q3773, plainFor_of_name pnX12, mhX12, pd7⟩, q3772, q402⟩
set_option maxRecDepth 100000 in
theorem mvX12_stop : xMv YX12_stop 12 2 := ⟨_, _, _, by decide, rfl, ⟨q3732, plainFor_of_name pnX12, mhX12, pd8⟩, q3731, qs203⟩
set_option maxRecDepth 100000 in
theorem mvX12_string : xMv YX12_string 12 1 := ⟨_, _, _, by decide, rfl, ⟨q3767, plainFor_of_name pnX12, mhX12, pd0⟩, q3766, qs207⟩
set_option maxRecDepth 100000 in
theorem mvX12_number : xMv YX12_number 12 1 := ⟨_, _, _, by decide, rfl, ⟨q3748, plainFor_of_name pnX12, mhX12, pd0⟩, q3747, qs205⟩
set_option maxRecDepth 100000 in
theorem pd35 : (parseMethodDescriptor "(III)V").map (fun s => s.parameters.length) = some 3 := by decide +kernel
set_option maxRecDepth 100000 in
theorem mvX12_lay : xMv YX12_lay 12 3 := ⟨_, _, _, by decide, rfl, ⟨q3738, plainFor_of_name pnX12, mhX12, pd35⟩, q3737, qs204⟩
set_option maxRecDepth 100000 in
theorem pd36 : (parseMethodDescriptor "(JIZI)D").map (fun s => s.parameters.length) = some 4 := by decide +kernel
set_option maxRecDepth 100000 in
theorem msX12_realOf : xMs YX12_realOf 4 := ⟨⟨q3759, plainFor_of_name pnX12, mhX12, pd36⟩, q3758, q402⟩
set_option maxRecDepth 100000 in
theorem pd37 : (parseMethodDescriptor "(II)J").map (fun s => s.parameters.length) = some 2 := by decide +kernel
set_option maxRecDepth 100000 in
theorem mvX12_valueOf : xMv YX12_valueOf 12 2 := ⟨_, _, _, by decide, rfl, ⟨q3755, plainFor_of_name pnX12, mhX12, pd37⟩, q3754, qs206⟩
set_option maxRecDepth 100000 in
theorem pd38 : (parseMethodDescriptor "(I)D").map (fun s => s.parameters.length) = some 1 := by decide +kernel
set_option maxRecDepth 100000 in
theorem msX12_power : xMs YX12_power 1 := ⟨⟨q3762, plainFor_of_name pnX12, mhX12, pd38⟩, q3761, q402⟩
set_option maxRecDepth 100000 in
theorem mvX12_must : xMv YX12_must 12 1 := ⟨_, _, _, by decide, rfl, ⟨q3781, plainFor_of_name pnX12, mhX12, pd7⟩, q3780, qs209⟩
set_option maxRecDepth 100000 in
theorem mvX12_node : xMv YX12_node 12 2 := ⟨_, _, _, by decide, rfl, ⟨q3801, plainFor_of_name pnX12, mhX12, pd31⟩, q3800, qs214⟩
set_option maxRecDepth 100000 in
theorem mvX12_now : xMv YX12_now 12 0 := ⟨_, _, _, by decide, rfl, ⟨q3793, plainFor_of_name pnX12, mhX12, pd3⟩, q3792, qs212⟩
set_option maxRecDepth 100000 in
theorem mvX12_takes : xMv YX12_takes 12 1 := ⟨_, _, _, by decide, rfl, ⟨q3805, plainFor_of_name pnX12, mhX12, pd34⟩, q3804, qs215⟩
set_option maxRecDepth 100000 in
theorem mvX12_parseNames : xMv YX12_parseNames 12 0 := ⟨_, _, _, by decide, rfl, ⟨q3809, plainFor_of_name pnX12, mhX12, pd3⟩, q3808, qs216⟩
set_option maxRecDepth 100000 in
theorem mvX12_add : xMv YX12_add 12 2 := ⟨_, _, _, by decide, rfl, ⟨q3813, plainFor_of_name pnX12, mhX12, pd8⟩, q3812, qs217⟩
set_option maxRecDepth 100000 in
theorem mvX12_parseBlock : xMv YX12_parseBlock 12 0 := ⟨_, _, _, by decide, rfl, ⟨q3817, plainFor_of_name pnX12, mhX12, pd3⟩, q3816, qs218⟩
set_option maxRecDepth 100000 in
theorem mvX12_sees : xMv YX12_sees 12 1 := ⟨_, _, _, by decide, rfl, ⟨q3785, plainFor_of_name pnX12, mhX12, pd34⟩, q3784, qs210⟩
set_option maxRecDepth 100000 in
theorem mvX12_bad : xMv YX12_bad 12 0 := ⟨_, _, _, by decide, rfl, ⟨q3789, plainFor_of_name pnX12, mhX12, pd1⟩, q3788, qs211⟩
set_option maxRecDepth 100000 in
theorem mvX12_take : xMv YX12_take 12 0 := ⟨_, _, _, by decide, rfl, ⟨q3797, plainFor_of_name pnX12, mhX12, pd3⟩, q3796, qs213⟩
set_option maxRecDepth 100000 in
theorem mvX12_enter : xMv YX12_enter 12 0 := ⟨_, _, _, by decide, rfl, ⟨q3821, plainFor_of_name pnX12, mhX12, pd1⟩, q3820, qs219⟩
set_option maxRecDepth 100000 in
theorem mvX12_parseConstant : xMv YX12_parseConstant 12 0 := ⟨_, _, _, by decide, rfl, ⟨q3825, plainFor_of_name pnX12, mhX12, pd3⟩, q3824, qs220⟩
set_option maxRecDepth 100000 in
theorem mvX12_parseType : xMv YX12_parseType 12 0 := ⟨_, _, _, by decide, rfl, ⟨q3829, plainFor_of_name pnX12, mhX12, pd3⟩, q3828, qs221⟩
set_option maxRecDepth 100000 in
theorem mvX12_parseNamed : xMv YX12_parseNamed 12 0 := ⟨_, _, _, by decide, rfl, ⟨q3849, plainFor_of_name pnX12, mhX12, pd3⟩, q3848, qs226⟩
set_option maxRecDepth 100000 in
theorem mvX12_parseRow : xMv YX12_parseRow 12 1 := ⟨_, _, _, by decide, rfl, ⟨q3869, plainFor_of_name pnX12, mhX12, pd0⟩, q3868, qs231⟩
set_option maxRecDepth 100000 in
theorem mvX12_parseRoutine : xMv YX12_parseRoutine 12 0 := ⟨_, _, _, by decide, rfl, ⟨q3857, plainFor_of_name pnX12, mhX12, pd3⟩, q3856, qs228⟩
set_option maxRecDepth 100000 in
theorem mvX12_parseSimple : xMv YX12_parseSimple 12 0 := ⟨_, _, _, by decide, rfl, ⟨q3837, plainFor_of_name pnX12, mhX12, pd3⟩, q3836, qs223⟩
set_option maxRecDepth 100000 in
theorem mvX12_parseStructure : xMv YX12_parseStructure 12 0 := ⟨_, _, _, by decide, rfl, ⟨q3833, plainFor_of_name pnX12, mhX12, pd3⟩, q3832, qs222⟩
set_option maxRecDepth 100000 in
theorem mvX12_parseFields : xMv YX12_parseFields 12 0 := ⟨_, _, _, by decide, rfl, ⟨q3845, plainFor_of_name pnX12, mhX12, pd3⟩, q3844, qs225⟩
set_option maxRecDepth 100000 in
theorem mvX12_beginsConstant : xMv YX12_beginsConstant 12 0 := ⟨_, _, _, by decide, rfl, ⟨q3841, plainFor_of_name pnX12, mhX12, pd6⟩, q3840, qs224⟩
set_option maxRecDepth 100000 in
theorem mvX12_parseVariants : xMv YX12_parseVariants 12 0 := ⟨_, _, _, by decide, rfl, ⟨q3853, plainFor_of_name pnX12, mhX12, pd3⟩, q3852, qs227⟩
set_option maxRecDepth 100000 in
theorem mvX12_parseParams : xMv YX12_parseParams 12 0 := ⟨_, _, _, by decide, rfl, ⟨q3861, plainFor_of_name pnX12, mhX12, pd3⟩, q3860, qs229⟩
set_option maxRecDepth 100000 in
theorem mvX12_parseGroup : xMv YX12_parseGroup 12 0 := ⟨_, _, _, by decide, rfl, ⟨q3865, plainFor_of_name pnX12, mhX12, pd3⟩, q3864, qs230⟩
set_option maxRecDepth 100000 in
theorem mvX12_parseStatement : xMv YX12_parseStatement 12 0 := ⟨_, _, _, by decide, rfl, ⟨q3873, plainFor_of_name pnX12, mhX12, pd3⟩, q3872, qs232⟩
set_option maxRecDepth 100000 in
theorem mvX12_parseCase : xMv YX12_parseCase 12 0 := ⟨_, _, _, by decide, rfl, ⟨q3909, plainFor_of_name pnX12, mhX12, pd3⟩, q3908, qs241⟩
set_option maxRecDepth 100000 in
theorem mvX12_parseE : xMv YX12_parseE 12 0 := ⟨_, _, _, by decide, rfl, ⟨q3877, plainFor_of_name pnX12, mhX12, pd3⟩, q3876, qs233⟩
set_option maxRecDepth 100000 in
theorem mvX12_parseVariable : xMv YX12_parseVariable 12 0 := ⟨_, _, _, by decide, rfl, ⟨q3913, plainFor_of_name pnX12, mhX12, pd3⟩, q3912, qs242⟩
set_option maxRecDepth 100000 in
theorem mvX12_parseNameStatement : xMv YX12_parseNameStatement 12 0 := ⟨_, _, _, by decide, rfl, ⟨q3917, plainFor_of_name pnX12, mhX12, pd3⟩, q3916, qs243⟩
set_option maxRecDepth 100000 in
theorem mvX12_parseSum : xMv YX12_parseSum 12 0 := ⟨_, _, _, by decide, rfl, ⟨q3881, plainFor_of_name pnX12, mhX12, pd3⟩, q3880, qs234⟩
set_option maxRecDepth 100000 in
theorem mvX12_seesRelation : xMv YX12_seesRelation 12 0 := ⟨_, _, _, by decide, rfl, ⟨q3905, plainFor_of_name pnX12, mhX12, pd6⟩, q3904, qs240⟩
set_option maxRecDepth 100000 in
theorem mvX12_parseTerm : xMv YX12_parseTerm 12 0 := ⟨_, _, _, by decide, rfl, ⟨q3885, plainFor_of_name pnX12, mhX12, pd3⟩, q3884, qs235⟩
set_option maxRecDepth 100000 in
theorem mvX12_parseFactor : xMv YX12_parseFactor 12 0 := ⟨_, _, _, by decide, rfl, ⟨q3889, plainFor_of_name pnX12, mhX12, pd3⟩, q3888, qs236⟩
set_option maxRecDepth 100000 in
theorem mvX12_parseNameFactor : xMv YX12_parseNameFactor 12 0 := ⟨_, _, _, by decide, rfl, ⟨q3897, plainFor_of_name pnX12, mhX12, pd3⟩, q3896, qs238⟩
set_option maxRecDepth 100000 in
theorem mvX12_parsePart : xMv YX12_parsePart 12 0 := ⟨_, _, _, by decide, rfl, ⟨q3893, plainFor_of_name pnX12, mhX12, pd3⟩, q3892, qs237⟩
set_option maxRecDepth 100000 in
theorem mvX12_parseSelectors : xMv YX12_parseSelectors 12 1 := ⟨_, _, _, by decide, rfl, ⟨q3901, plainFor_of_name pnX12, mhX12, pd7⟩, q3900, qs239⟩
set_option maxRecDepth 100000 in
theorem mvX12_parseArgument : xMv YX12_parseArgument 12 0 := ⟨_, _, _, by decide, rfl, ⟨q3921, plainFor_of_name pnX12, mhX12, pd3⟩, q3920, qs244⟩
set_option maxRecDepth 100000 in
theorem fdX12_591 : xFd RX12 591 13 1 (.int) false := ⟨_, _, _, by decide, rfl, by decide, in_X13, q3216, rfl, tyX13_ok, nmX13, rfl, by decide⟩
set_option maxRecDepth 100000 in
theorem fdX12_595 : xFd RX12 595 13 2 (.int) false := ⟨_, _, _, by decide, rfl, by decide, in_X13, q3218, rfl, tyX13_ok, nmX13, rfl, by decide⟩
set_option maxRecDepth 100000 in
theorem fdX12_598 : xFd RX12 598 13 5 (.object "PascalHouseModel$Type") false := ⟨_, _, _, by decide, rfl, by decide, in_X13, q3224, rfl, tyX13_ok, nmX13, rfl, by decide⟩
set_option maxRecDepth 100000 in
theorem fdX12_603 : xFd RX12 603 13 6 (.long) false := ⟨_, _, _, by decide, rfl, by decide, in_X13, q3226, rfl, tyX13_ok, nmX13, rfl, by decide⟩
set_option maxRecDepth 100000 in
theorem srX12_607 : ∃ t, xstrs[177]? = some (RX12, 607, t, 35) := ⟨_, rfl⟩
set_option maxRecDepth 100000 in
theorem pd39 : (parseMethodDescriptor "(Ljava/util/ArrayList;ILjava/lang/String;)LPascalHouseModel$Symbol;").map (fun s => s.parameters.length) = some 3 := by decide +kernel
set_option maxRecDepth 100000 in
theorem mvX12_bring : xMv YX12_bring 12 3 := ⟨_, _, _, by decide, rfl, ⟨q3933, plainFor_of_name pnX12, mhX12, pd39⟩, q3932, qs246⟩
set_option maxRecDepth 100000 in
theorem fdX12_612 : xFd RX12 612 23 2 (.object "PascalHouseModel$Type") false := ⟨_, _, _, by decide, rfl, by decide, in_X23, q3945, rfl, tyX23_ok, nmX23, rfl, by decide⟩
set_option maxRecDepth 100000 in
theorem srX12_614 : ∃ t, xstrs[178]? = some (RX12, 614, t, 36) := ⟨_, rfl⟩
set_option maxRecDepth 100000 in
theorem srX12_615 : ∃ t, xstrs[179]? = some (RX12, 615, t, 37) := ⟨_, rfl⟩
set_option maxRecDepth 100000 in
theorem srX12_617 : ∃ t, xstrs[180]? = some (RX12, 617, t, 38) := ⟨_, rfl⟩
set_option maxRecDepth 100000 in
theorem srX12_619 : ∃ t, xstrs[181]? = some (RX12, 619, t, 39) := ⟨_, rfl⟩
set_option maxRecDepth 100000 in
theorem srX12_620 : ∃ t, xstrs[182]? = some (RX12, 620, t, 40) := ⟨_, rfl⟩
set_option maxRecDepth 100000 in
theorem srX12_622 : ∃ t, xstrs[183]? = some (RX12, 622, t, 41) := ⟨_, rfl⟩
set_option maxRecDepth 100000 in
theorem fdX12_624 : xFd RX12 624 23 3 (.long) false := ⟨_, _, _, by decide, rfl, by decide, in_X23, q3946, rfl, tyX23_ok, nmX23, rfl, by decide⟩
set_option maxRecDepth 100000 in
theorem srX12_627 : ∃ t, xstrs[184]? = some (RX12, 627, t, 42) := ⟨_, rfl⟩
set_option maxRecDepth 100000 in
theorem pd40 : (parseMethodDescriptor "(Ljava/util/ArrayList;I)V").map (fun s => s.parameters.length) = some 2 := by decide +kernel
set_option maxRecDepth 100000 in
theorem mvX12_push : xMv YX12_push 12 2 := ⟨_, _, _, by decide, rfl, ⟨q4066, plainFor_of_name pnX12, mhX12, pd40⟩, q4065, qs247⟩
set_option maxRecDepth 100000 in
theorem msX12_thereName : xMs YX12_thereName 1 := ⟨⟨q4040, plainFor_of_name pnX12, mhX12, pd33⟩, q4039, q402⟩
set_option maxRecDepth 100000 in
theorem fdX12_632 : xFd RX12 632 23 15 (.int) false := ⟨_, _, _, by decide, rfl, by decide, in_X23, q3958, rfl, tyX23_ok, nmX23, rfl, by decide⟩
set_option maxRecDepth 100000 in
theorem fdX12_635 : xFd RX12 635 23 17 (.boolean) false := ⟨_, _, _, by decide, rfl, by decide, in_X23, q3960, rfl, tyX23_ok, nmX23, rfl, by decide⟩
set_option maxRecDepth 100000 in
theorem cdX12_100 : xCd RX12 100 23 28 := ⟨_, _, _, by decide, rfl, in_X23, tyX23_ok, q3206, q3934, q420⟩
set_option maxRecDepth 100000 in
theorem pnX23 : plainName RX23 = true := by decide +kernel
set_option maxRecDepth 100000 in
theorem mhX23 : RX23 ≠ "java/lang/invoke/MethodHandle" ∧ RX23 ≠ "java/lang/invoke/VarHandle" := by decide +kernel
set_option maxRecDepth 100000 in
theorem miX23_init : xMi YX23_init 2 := ⟨⟨q3937, plainFor_of_name pnX23, mhX23, pd8⟩, q3936, rfl, rfl, rfl⟩
set_option maxRecDepth 100000 in
theorem mvJ2_add : xMv YJ2_add 28 1 := ⟨_, _, _, by decide, rfl, ⟨q1012, plainFor_of_name pnJ2, mhJ2, pd19⟩, q1010, q1011⟩
set_option maxRecDepth 100000 in
theorem srX12_643 : ∃ t, xstrs[185]? = some (RX12, 643, t, 70) := ⟨_, rfl⟩
set_option maxRecDepth 100000 in
theorem srX12_644 : ∃ t, xstrs[186]? = some (RX12, 644, t, 71) := ⟨_, rfl⟩
set_option maxRecDepth 100000 in
theorem srX12_646 : ∃ t, xstrs[187]? = some (RX12, 646, t, 72) := ⟨_, rfl⟩
set_option maxRecDepth 100000 in
theorem srX12_648 : ∃ t, xstrs[188]? = some (RX12, 648, t, 73) := ⟨_, rfl⟩
set_option maxRecDepth 100000 in
theorem srX12_650 : ∃ t, xstrs[189]? = some (RX12, 650, t, 74) := ⟨_, rfl⟩
set_option maxRecDepth 100000 in
theorem srX12_652 : ∃ t, xstrs[190]? = some (RX12, 652, t, 75) := ⟨_, rfl⟩
set_option maxRecDepth 100000 in
theorem srX12_654 : ∃ t, xstrs[191]? = some (RX12, 654, t, 76) := ⟨_, rfl⟩
set_option maxRecDepth 100000 in
theorem srX12_655 : ∃ t, xstrs[192]? = some (RX12, 655, t, 77) := ⟨_, rfl⟩
set_option maxRecDepth 100000 in
theorem srX12_657 : ∃ t, xstrs[193]? = some (RX12, 657, t, 78) := ⟨_, rfl⟩
set_option maxRecDepth 100000 in
theorem srX12_659 : ∃ t, xstrs[194]? = some (RX12, 659, t, 79) := ⟨_, rfl⟩
set_option maxRecDepth 100000 in
theorem srX12_661 : ∃ t, xstrs[195]? = some (RX12, 661, t, 80) := ⟨_, rfl⟩
set_option maxRecDepth 100000 in
theorem srX12_663 : ∃ t, xstrs[196]? = some (RX12, 663, t, 81) := ⟨_, rfl⟩
set_option maxRecDepth 100000 in
theorem srX12_665 : ∃ t, xstrs[197]? = some (RX12, 665, t, 82) := ⟨_, rfl⟩
set_option maxRecDepth 100000 in
theorem srX12_667 : ∃ t, xstrs[198]? = some (RX12, 667, t, 83) := ⟨_, rfl⟩
set_option maxRecDepth 100000 in
theorem srX12_669 : ∃ t, xstrs[199]? = some (RX12, 669, t, 84) := ⟨_, rfl⟩
set_option maxRecDepth 100000 in
theorem srX12_671 : ∃ t, xstrs[200]? = some (RX12, 671, t, 85) := ⟨_, rfl⟩
set_option maxRecDepth 100000 in
theorem srX12_673 : ∃ t, xstrs[201]? = some (RX12, 673, t, 86) := ⟨_, rfl⟩
set_option maxRecDepth 100000 in
theorem srX12_675 : ∃ t, xstrs[202]? = some (RX12, 675, t, 87) := ⟨_, rfl⟩
set_option maxRecDepth 100000 in
theorem srX12_677 : ∃ t, xstrs[203]? = some (RX12, 677, t, 88) := ⟨_, rfl⟩
set_option maxRecDepth 100000 in
theorem srX12_679 : ∃ t, xstrs[204]? = some (RX12, 679, t, 89) := ⟨_, rfl⟩
set_option maxRecDepth 100000 in
theorem srX12_681 : ∃ t, xstrs[205]? = some (RX12, 681, t, 90) := ⟨_, rfl⟩
set_option maxRecDepth 100000 in
theorem srX12_683 : ∃ t, xstrs[206]? = some (RX12, 683, t, 91) := ⟨_, rfl⟩
set_option maxRecDepth 100000 in
theorem cdX12_685 : xCd RX12 685 24 4 := ⟨_, _, _, by decide, rfl, in_X24, tyX24_ok, q4072, q4073, q421⟩
set_option maxRecDepth 100000 in
theorem pnX24 : plainName RX24 = true := by decide +kernel
set_option maxRecDepth 100000 in
theorem mhX24 : RX24 ≠ "java/lang/invoke/MethodHandle" ∧ RX24 ≠ "java/lang/invoke/VarHandle" := by decide +kernel
set_option maxRecDepth 100000 in
theorem miX24_init : xMi YX24_init 0 := ⟨⟨q4076, plainFor_of_name pnX24, mhX24, pd1⟩, q4075, rfl, rfl, rfl⟩
set_option maxRecDepth 100000 in
theorem fdX12_717 : xFd RX12 717 12 65 (.object "java/util/ArrayList") false := ⟨_, _, _, by decide, rfl, by decide, in_X12, q3316, rfl, tyX12_ok, nmX12, rfl, by decide⟩
set_option maxRecDepth 100000 in
theorem mvX12_child : xMv YX12_child 12 2 := ⟨_, _, _, by decide, rfl, ⟨q4129, plainFor_of_name pnX12, mhX12, pd31⟩, q4128, qs256⟩
set_option maxRecDepth 100000 in
theorem fdX12_737 : xFd RX12 737 12 63 (.int) false := ⟨_, _, _, by decide, rfl, by decide, in_X12, q3314, rfl, tyX12_ok, nmX12, rfl, by decide⟩
set_option maxRecDepth 100000 in
theorem mvX12_checkBlock : xMv YX12_checkBlock 12 2 := ⟨_, _, _, by decide, rfl, ⟨q4133, plainFor_of_name pnX12, mhX12, pd8⟩, q4132, qs257⟩
set_option maxRecDepth 100000 in
theorem pd41 : (parseMethodDescriptor "()LPascalHouseModel$Scope;").map (fun s => s.parameters.length) = some 0 := by decide +kernel
set_option maxRecDepth 100000 in
theorem mvX12_scope : xMv YX12_scope 12 0 := ⟨_, _, _, by decide, rfl, ⟨q4125, plainFor_of_name pnX12, mhX12, pd41⟩, q4124, qs255⟩
set_option maxRecDepth 100000 in
theorem fdX12_711 : xFd RX12 711 24 2 (.int) false := ⟨_, _, _, by decide, rfl, by decide, in_X24, q4084, rfl, tyX24_ok, nmX24, rfl, by decide⟩
set_option maxRecDepth 100000 in
theorem fdX12_743 : xFd RX12 743 12 64 (.int) false := ⟨_, _, _, by decide, rfl, by decide, in_X12, q3315, rfl, tyX12_ok, nmX12, rfl, by decide⟩
set_option maxRecDepth 100000 in
theorem pd42 : (parseMethodDescriptor "()Ljava/util/ArrayList;").map (fun s => s.parameters.length) = some 0 := by decide +kernel
set_option maxRecDepth 100000 in
theorem mvX12_pop : xMv YX12_pop 12 0 := ⟨_, _, _, by decide, rfl, ⟨q4286, plainFor_of_name pnX12, mhX12, pd42⟩, q4285, qs274⟩
set_option maxRecDepth 100000 in
theorem mvJ2_remove : xMv YJ2_remove 28 1 := ⟨_, _, _, by decide, rfl, ⟨q4290, plainFor_of_name pnJ2, mhJ2, pd23⟩, q4288, q4289⟩
set_option maxRecDepth 100000 in
theorem mvX12_refuse : xMv YX12_refuse 12 2 := ⟨_, _, _, by decide, rfl, ⟨q4098, plainFor_of_name pnX12, mhX12, pd8⟩, q4097, qs249⟩
set_option maxRecDepth 100000 in
theorem srX12_720 : ∃ t, xstrs[207]? = some (RX12, 720, t, 68) := ⟨_, rfl⟩
set_option maxRecDepth 100000 in
theorem srX12_721 : ∃ t, xstrs[208]? = some (RX12, 721, t, 69) := ⟨_, rfl⟩
set_option maxRecDepth 100000 in
theorem pd43 : (parseMethodDescriptor "(ILPascalHouseModel$Type;)LPascalHouseModel$Symbol;").map (fun s => s.parameters.length) = some 2 := by decide +kernel
set_option maxRecDepth 100000 in
theorem mvX12_variable : xMv YX12_variable 12 2 := ⟨_, _, _, by decide, rfl, ⟨q4104, plainFor_of_name pnX12, mhX12, pd43⟩, q4103, qs250⟩
set_option maxRecDepth 100000 in
theorem mvX12_here : xMv YX12_here 12 0 := ⟨_, _, _, by decide, rfl, ⟨q4108, plainFor_of_name pnX12, mhX12, pd42⟩, q4107, qs251⟩
set_option maxRecDepth 100000 in
theorem pd44 : (parseMethodDescriptor "(IILjava/util/ArrayList;)LPascalHouseModel$Symbol;").map (fun s => s.parameters.length) = some 3 := by decide +kernel
set_option maxRecDepth 100000 in
theorem mvX12_define : xMv YX12_define 12 3 := ⟨_, _, _, by decide, rfl, ⟨q4113, plainFor_of_name pnX12, mhX12, pd44⟩, q4112, qs252⟩
set_option maxRecDepth 100000 in
theorem mvX12_level : xMv YX12_level 12 0 := ⟨_, _, _, by decide, rfl, ⟨q4121, plainFor_of_name pnX12, mhX12, pd3⟩, q4120, qs254⟩
set_option maxRecDepth 100000 in
theorem fdX12_705 : xFd RX12 705 23 5 (.int) false := ⟨_, _, _, by decide, rfl, by decide, in_X23, q3948, rfl, tyX23_ok, nmX23, rfl, by decide⟩
set_option maxRecDepth 100000 in
theorem fdX12_713 : xFd RX12 713 23 6 (.int) false := ⟨_, _, _, by decide, rfl, by decide, in_X23, q3949, rfl, tyX23_ok, nmX23, rfl, by decide⟩
set_option maxRecDepth 100000 in
theorem pd45 : (parseMethodDescriptor "(Ljava/util/ArrayList;I)LPascalHouseModel$Symbol;").map (fun s => s.parameters.length) = some 2 := by decide +kernel
set_option maxRecDepth 100000 in
theorem mvX12_inRegion : xMv YX12_inRegion 12 2 := ⟨_, _, _, by decide, rfl, ⟨q4117, plainFor_of_name pnX12, mhX12, pd45⟩, q4116, qs253⟩
set_option maxRecDepth 100000 in
theorem fdX12_587 : xFd RX12 587 23 25 (.int) false := ⟨_, _, _, by decide, rfl, by decide, in_X23, q3970, rfl, tyX23_ok, nmX23, rfl, by decide⟩
set_option maxRecDepth 100000 in
theorem fdX12_560 : xFd RX12 560 23 1 (.int) true := ⟨_, _, _, by decide, rfl, by decide, in_X23, q3944, rfl, tyX23_ok, nmX23, rfl, by decide⟩
set_option maxRecDepth 100000 in
theorem pd46 : (parseMethodDescriptor "(LPascalHouseModel$Scope;I)LPascalHouseModel$Label;").map (fun s => s.parameters.length) = some 2 := by decide +kernel
set_option maxRecDepth 100000 in
theorem mvX12_labelIn : xMv YX12_labelIn 12 2 := ⟨_, _, _, by decide, rfl, ⟨q4137, plainFor_of_name pnX12, mhX12, pd46⟩, q4136, qs258⟩
set_option maxRecDepth 100000 in
theorem mvX12_constant : xMv YX12_constant 12 1 := ⟨_, _, _, by decide, rfl, ⟨q4156, plainFor_of_name pnX12, mhX12, pd0⟩, q4155, qs259⟩
set_option maxRecDepth 100000 in
theorem fdX12_757 : xFd RX12 757 12 66 (.object "PascalHouseModel$Type") false := ⟨_, _, _, by decide, rfl, by decide, in_X12, q3317, rfl, tyX12_ok, nmX12, rfl, by decide⟩
set_option maxRecDepth 100000 in
theorem fdX12_760 : xFd RX12 760 12 67 (.long) false := ⟨_, _, _, by decide, rfl, by decide, in_X12, q3318, rfl, tyX12_ok, nmX12, rfl, by decide⟩
set_option maxRecDepth 100000 in
theorem fdX12_763 : xFd RX12 763 12 68 (.double) false := ⟨_, _, _, by decide, rfl, by decide, in_X12, q3319, rfl, tyX12_ok, nmX12, rfl, by decide⟩
set_option maxRecDepth 100000 in
theorem fdX12_767 : xFd RX12 767 12 69 (.int) false := ⟨_, _, _, by decide, rfl, by decide, in_X12, q3320, rfl, tyX12_ok, nmX12, rfl, by decide⟩
set_option maxRecDepth 100000 in
theorem fdX12_770 : xFd RX12 770 23 4 (.double) false := ⟨_, _, _, by decide, rfl, by decide, in_X23, q3947, rfl, tyX23_ok, nmX23, rfl, by decide⟩
set_option maxRecDepth 100000 in
theorem fdX12_772 : xFd RX12 772 23 16 (.int) false := ⟨_, _, _, by decide, rfl, by decide, in_X23, q3959, rfl, tyX23_ok, nmX23, rfl, by decide⟩
set_option maxRecDepth 100000 in
theorem fdX12_687 : xFd RX12 687 24 0 (.object "java/util/ArrayList") true := ⟨_, _, _, by decide, rfl, by decide, in_X24, q4081, rfl, tyX24_ok, nmX24, rfl, by decide⟩
set_option maxRecDepth 100000 in
theorem cdX12_690 : xCd RX12 690 25 2 := ⟨_, _, _, by decide, rfl, in_X25, tyX25_ok, q4138, q4139, q422⟩
set_option maxRecDepth 100000 in
theorem pnX25 : plainName RX25 = true := by decide +kernel
set_option maxRecDepth 100000 in
theorem mhX25 : RX25 ≠ "java/lang/invoke/MethodHandle" ∧ RX25 ≠ "java/lang/invoke/VarHandle" := by decide +kernel
set_option maxRecDepth 100000 in
theorem miX25_init : xMi YX25_init 1 := ⟨⟨q4142, plainFor_of_name pnX25, mhX25, pd0⟩, q4141, rfl, rfl, rfl⟩
set_option maxRecDepth 100000 in
theorem pd47 : (parseMethodDescriptor "(I)LPascalHouseModel$Type;").map (fun s => s.parameters.length) = some 1 := by decide +kernel
set_option maxRecDepth 100000 in
theorem mvX12_typeOf : xMv YX12_typeOf 12 1 := ⟨_, _, _, by decide, rfl, ⟨q4176, plainFor_of_name pnX12, mhX12, pd47⟩, q4175, qs262⟩
set_option maxRecDepth 100000 in
theorem pd48 : (parseMethodDescriptor "(LPascalHouseModel$Type;I)V").map (fun s => s.parameters.length) = some 2 := by decide +kernel
set_option maxRecDepth 100000 in
theorem mvX12_point : xMv YX12_point 12 2 := ⟨_, _, _, by decide, rfl, ⟨q4180, plainFor_of_name pnX12, mhX12, pd48⟩, q4179, qs263⟩
set_option maxRecDepth 100000 in
theorem mvX12_checkHead : xMv YX12_checkHead 12 1 := ⟨_, _, _, by decide, rfl, ⟨q4266, plainFor_of_name pnX12, mhX12, pd0⟩, q4265, qs270⟩
set_option maxRecDepth 100000 in
theorem fdX12_787 : xFd RX12 787 23 10 (.boolean) false := ⟨_, _, _, by decide, rfl, by decide, in_X23, q3953, rfl, tyX23_ok, nmX23, rfl, by decide⟩
set_option maxRecDepth 100000 in
theorem mvX12_checkRoutine : xMv YX12_checkRoutine 12 1 := ⟨_, _, _, by decide, rfl, ⟨q4274, plainFor_of_name pnX12, mhX12, pd0⟩, q4273, qs271⟩
set_option maxRecDepth 100000 in
theorem fdX12_802 : xFd RX12 802 24 3 (.int) false := ⟨_, _, _, by decide, rfl, by decide, in_X24, q4085, rfl, tyX24_ok, nmX24, rfl, by decide⟩
set_option maxRecDepth 100000 in
theorem mvX12_checkStatement : xMv YX12_checkStatement 12 1 := ⟨_, _, _, by decide, rfl, ⟨q4303, plainFor_of_name pnX12, mhX12, pd0⟩, q4302, qs277⟩
set_option maxRecDepth 100000 in
theorem fdX12_577 : xFd RX12 577 23 0 (.int) true := ⟨_, _, _, by decide, rfl, by decide, in_X23, q3942, rfl, tyX23_ok, nmX23, rfl, by decide⟩
set_option maxRecDepth 100000 in
theorem fdX12_796 : xFd RX12 796 23 18 (.boolean) false := ⟨_, _, _, by decide, rfl, by decide, in_X23, q3961, rfl, tyX23_ok, nmX23, rfl, by decide⟩
set_option maxRecDepth 100000 in
theorem fdX12_799 : xFd RX12 799 23 19 (.boolean) false := ⟨_, _, _, by decide, rfl, by decide, in_X23, q3962, rfl, tyX23_ok, nmX23, rfl, by decide⟩
set_option maxRecDepth 100000 in
theorem fdX12_811 : xFd RX12 811 24 1 (.object "java/util/ArrayList") true := ⟨_, _, _, by decide, rfl, by decide, in_X24, q4083, rfl, tyX24_ok, nmX24, rfl, by decide⟩
set_option maxRecDepth 100000 in
theorem pd49 : (parseMethodDescriptor "(LPascalHouseModel$Scope;LPascalHouseModel$Jump;)V").map (fun s => s.parameters.length) = some 2 := by decide +kernel
set_option maxRecDepth 100000 in
theorem mvX12_checkJump : xMv YX12_checkJump 12 2 := ⟨_, _, _, by decide, rfl, ⟨q4475, plainFor_of_name pnX12, mhX12, pd49⟩, q4474, qs311⟩
set_option maxRecDepth 100000 in
theorem fdX12_692 : xFd RX12 692 25 0 (.int) true := ⟨_, _, _, by decide, rfl, by decide, in_X25, q4145, rfl, tyX25_ok, nmX25, rfl, by decide⟩
set_option maxRecDepth 100000 in
theorem pd50 : (parseMethodDescriptor "(II)LPascalHouseModel$Symbol;").map (fun s => s.parameters.length) = some 2 := by decide +kernel
set_option maxRecDepth 100000 in
theorem mvX12_findOf : xMv YX12_findOf 12 2 := ⟨_, _, _, by decide, rfl, ⟨q4160, plainFor_of_name pnX12, mhX12, pd50⟩, q4159, qs260⟩
set_option maxRecDepth 100000 in
theorem mvX13_isNumber : xMv YX13_isNumber 13 0 := ⟨_, _, _, by decide, rfl, ⟨q4168, plainFor_of_name pnX13, mhX13, pd6⟩, q4166, q4167⟩
set_option maxRecDepth 100000 in
theorem pd51 : (parseMethodDescriptor "(I)LPascalHouseModel$Symbol;").map (fun s => s.parameters.length) = some 1 := by decide +kernel
set_option maxRecDepth 100000 in
theorem mvX12_find : xMv YX12_find 12 1 := ⟨_, _, _, by decide, rfl, ⟨q4164, plainFor_of_name pnX12, mhX12, pd51⟩, q4163, qs261⟩
set_option maxRecDepth 100000 in
theorem fdX12_563 : xFd RX12 563 12 53 (.int) false := ⟨_, _, _, by decide, rfl, by decide, in_X12, q3304, rfl, tyX12_ok, nmX12, rfl, by decide⟩
set_option maxRecDepth 100000 in
theorem mvX12_arrayOf : xMv YX12_arrayOf 12 1 := ⟨_, _, _, by decide, rfl, ⟨q4193, plainFor_of_name pnX12, mhX12, pd47⟩, q4192, qs265⟩
set_option maxRecDepth 100000 in
theorem fdX12_852 : xFd RX12 852 13 7 (.object "java/util/ArrayList") false := ⟨_, _, _, by decide, rfl, by decide, in_X13, q3227, rfl, tyX13_ok, nmX13, rfl, by decide⟩
set_option maxRecDepth 100000 in
theorem pd52 : (parseMethodDescriptor "(ILPascalHouseModel$Type;LPascalHouseModel$Variants;I)V").map (fun s => s.parameters.length) = some 4 := by decide +kernel
set_option maxRecDepth 100000 in
theorem mvX12_fieldsOf : xMv YX12_fieldsOf 12 4 := ⟨_, _, _, by decide, rfl, ⟨q4202, plainFor_of_name pnX12, mhX12, pd52⟩, q4201, qs266⟩
set_option maxRecDepth 100000 in
theorem mvX13_isOrdinal : xMv YX13_isOrdinal 13 0 := ⟨_, _, _, by decide, rfl, ⟨q4188, plainFor_of_name pnX13, mhX13, pd6⟩, q4186, q4187⟩
set_option maxRecDepth 100000 in
theorem fdX12_845 : xFd RX12 845 13 0 (.int) true := ⟨_, _, _, by decide, rfl, by decide, in_X13, q3214, rfl, tyX13_ok, nmX13, rfl, by decide⟩
set_option maxRecDepth 100000 in
theorem mvX12_rangeOf : xMv YX12_rangeOf 12 1 := ⟨_, _, _, by decide, rfl, ⟨q4184, plainFor_of_name pnX12, mhX12, pd47⟩, q4183, qs264⟩
set_option maxRecDepth 100000 in
theorem fdX12_864 : xFd RX12 864 13 4 (.object "PascalHouseModel$Type") false := ⟨_, _, _, by decide, rfl, by decide, in_X13, q3222, rfl, tyX13_ok, nmX13, rfl, by decide⟩
set_option maxRecDepth 100000 in
theorem fdX12_871 : xFd RX12 871 13 3 (.object "PascalHouseModel$Type") false := ⟨_, _, _, by decide, rfl, by decide, in_X13, q3220, rfl, tyX13_ok, nmX13, rfl, by decide⟩
set_option maxRecDepth 100000 in
theorem pd53 : (parseMethodDescriptor "()J").map (fun s => s.parameters.length) = some 0 := by decide +kernel
set_option maxRecDepth 100000 in
theorem mvX13_values : xMv YX13_values 13 0 := ⟨_, _, _, by decide, rfl, ⟨q4197, plainFor_of_name pnX13, mhX13, pd53⟩, q4195, q4196⟩
set_option maxRecDepth 100000 in
theorem mvX12_variantsOf : xMv YX12_variantsOf 12 4 := ⟨_, _, _, by decide, rfl, ⟨q4206, plainFor_of_name pnX12, mhX12, pd52⟩, q4205, qs267⟩
set_option maxRecDepth 100000 in
theorem pd54 : (parseMethodDescriptor "(ILPascalHouseModel$Type;LPascalHouseModel$Type;LPascalHouseModel$Variants;I)LPascalHouseModel$Symbol;").map (fun s => s.parameters.length) = some 5 := by decide +kernel
set_option maxRecDepth 100000 in
theorem mvX12_field : xMv YX12_field 12 5 := ⟨_, _, _, by decide, rfl, ⟨q4250, plainFor_of_name pnX12, mhX12, pd54⟩, q4249, qs268⟩
set_option maxRecDepth 100000 in
theorem cdX12_900 : xCd RX12 900 26 9 := ⟨_, _, _, by decide, rfl, in_X26, tyX26_ok, q4207, q4208, q423⟩
set_option maxRecDepth 100000 in
theorem pd55 : (parseMethodDescriptor "(LPascalHouseModel$Variants;II)V").map (fun s => s.parameters.length) = some 3 := by decide +kernel
set_option maxRecDepth 100000 in
theorem miX26_init : xMi YX26_init 3 := ⟨⟨q4211, plainFor_of_name pnX26, mhX26, pd55⟩, q4210, rfl, rfl, rfl⟩
set_option maxRecDepth 100000 in
theorem pd56 : (parseMethodDescriptor "(JJ)J").map (fun s => s.parameters.length) = some 2 := by decide +kernel
set_option maxRecDepth 100000 in
theorem msJ10_min_2 : xMs YJ10_min_2 2 := ⟨⟨q4246, by decide +kernel, mhJ10, pd56⟩, q4245, q395⟩
set_option maxRecDepth 100000 in
theorem fdX12_905 : xFd RX12 905 26 3 (.int) false := ⟨_, _, _, by decide, rfl, by decide, in_X26, q4218, rfl, tyX26_ok, nmX26, rfl, by decide⟩
set_option maxRecDepth 100000 in
theorem fdX12_908 : xFd RX12 908 26 2 (.boolean) false := ⟨_, _, _, by decide, rfl, by decide, in_X26, q4217, rfl, tyX26_ok, nmX26, rfl, by decide⟩
set_option maxRecDepth 100000 in
theorem fdX12_911 : xFd RX12 911 23 13 (.object "PascalHouseModel$Variants") false := ⟨_, _, _, by decide, rfl, by decide, in_X23, q3956, rfl, tyX23_ok, nmX23, rfl, by decide⟩
set_option maxRecDepth 100000 in
theorem fdX12_914 : xFd RX12 914 26 4 (.int) false := ⟨_, _, _, by decide, rfl, by decide, in_X26, q4219, rfl, tyX26_ok, nmX26, rfl, by decide⟩
set_option maxRecDepth 100000 in
theorem fdX12_921 : xFd RX12 921 26 5 (.int) false := ⟨_, _, _, by decide, rfl, by decide, in_X26, q4220, rfl, tyX26_ok, nmX26, rfl, by decide⟩
set_option maxRecDepth 100000 in
theorem mvX26_choiceOf : xMv YX26_choiceOf 26 1 := ⟨_, _, _, by decide, rfl, ⟨q4254, plainFor_of_name pnX26, mhX26, pd7⟩, q4252, q4253⟩
set_option maxRecDepth 100000 in
theorem mvX26_add : xMv YX26_add 26 2 := ⟨_, _, _, by decide, rfl, ⟨q4262, plainFor_of_name pnX26, mhX26, pd8⟩, q4260, q4261⟩
set_option maxRecDepth 100000 in
theorem fdX12_893 : xFd RX12 893 23 12 (.object "PascalHouseModel$Variants") false := ⟨_, _, _, by decide, rfl, by decide, in_X23, q3955, rfl, tyX23_ok, nmX23, rfl, by decide⟩
set_option maxRecDepth 100000 in
theorem fdX12_897 : xFd RX12 897 23 14 (.int) false := ⟨_, _, _, by decide, rfl, by decide, in_X23, q3957, rfl, tyX23_ok, nmX23, rfl, by decide⟩
set_option maxRecDepth 100000 in
theorem pd57 : (parseMethodDescriptor "(ILjava/lang/Object;)Ljava/lang/Object;").map (fun s => s.parameters.length) = some 2 := by decide +kernel
set_option maxRecDepth 100000 in
theorem mvJ2_set : xMv YJ2_set 28 2 := ⟨_, _, _, by decide, rfl, ⟨q4270, plainFor_of_name pnJ2, mhJ2, pd57⟩, q4268, q4269⟩
set_option maxRecDepth 100000 in
theorem fdX12_923 : xFd RX12 923 23 23 (.object "java/util/ArrayList") false := ⟨_, _, _, by decide, rfl, by decide, in_X23, q3967, rfl, tyX23_ok, nmX23, rfl, by decide⟩
set_option maxRecDepth 100000 in
theorem pd58 : (parseMethodDescriptor "(ILPascalHouseModel$Symbol;I)V").map (fun s => s.parameters.length) = some 3 := by decide +kernel
set_option maxRecDepth 100000 in
theorem mvX12_parameters : xMv YX12_parameters 12 3 := ⟨_, _, _, by decide, rfl, ⟨q4278, plainFor_of_name pnX12, mhX12, pd58⟩, q4277, qs272⟩
set_option maxRecDepth 100000 in
theorem mvX12_resultOf : xMv YX12_resultOf 12 1 := ⟨_, _, _, by decide, rfl, ⟨q4282, plainFor_of_name pnX12, mhX12, pd47⟩, q4281, qs273⟩
set_option maxRecDepth 100000 in
theorem fdX12_936 : xFd RX12 936 23 26 (.int) false := ⟨_, _, _, by decide, rfl, by decide, in_X23, q3971, rfl, tyX23_ok, nmX23, rfl, by decide⟩
set_option maxRecDepth 100000 in
theorem fdX12_937 : xFd RX12 937 23 27 (.int) false := ⟨_, _, _, by decide, rfl, by decide, in_X23, q3972, rfl, tyX23_ok, nmX23, rfl, by decide⟩
set_option maxRecDepth 100000 in
theorem fdX12_940 : xFd RX12 940 23 21 (.boolean) false := ⟨_, _, _, by decide, rfl, by decide, in_X23, q3964, rfl, tyX23_ok, nmX23, rfl, by decide⟩
set_option maxRecDepth 100000 in
theorem fdX12_943 : xFd RX12 943 23 24 (.int) false := ⟨_, _, _, by decide, rfl, by decide, in_X23, q3969, rfl, tyX23_ok, nmX23, rfl, by decide⟩
set_option maxRecDepth 100000 in
theorem fdX12_946 : xFd RX12 946 23 20 (.boolean) false := ⟨_, _, _, by decide, rfl, by decide, in_X23, q3963, rfl, tyX23_ok, nmX23, rfl, by decide⟩
set_option maxRecDepth 100000 in
theorem pd59 : (parseMethodDescriptor "(IILPascalHouseModel$Symbol;I)LPascalHouseModel$Symbol;").map (fun s => s.parameters.length) = some 4 := by decide +kernel
set_option maxRecDepth 100000 in
theorem mvX12_parameter : xMv YX12_parameter 12 4 := ⟨_, _, _, by decide, rfl, ⟨q4299, plainFor_of_name pnX12, mhX12, pd59⟩, q4298, qs276⟩
set_option maxRecDepth 100000 in
theorem fdX12_958 : xFd RX12 958 23 9 (.boolean) false := ⟨_, _, _, by decide, rfl, by decide, in_X23, q3952, rfl, tyX23_ok, nmX23, rfl, by decide⟩
set_option maxRecDepth 100000 in
theorem fdX12_949 : xFd RX12 949 23 22 (.object "java/util/ArrayList") true := ⟨_, _, _, by decide, rfl, by decide, in_X23, q3966, rfl, tyX23_ok, nmX23, rfl, by decide⟩
set_option maxRecDepth 100000 in
theorem fdX12_961 : xFd RX12 961 23 7 (.boolean) false := ⟨_, _, _, by decide, rfl, by decide, in_X23, q3950, rfl, tyX23_ok, nmX23, rfl, by decide⟩
set_option maxRecDepth 100000 in
theorem fdX12_951 : xFd RX12 951 23 8 (.boolean) false := ⟨_, _, _, by decide, rfl, by decide, in_X23, q3951, rfl, tyX23_ok, nmX23, rfl, by decide⟩
set_option maxRecDepth 100000 in
theorem fdX12_826 : xFd RX12 826 25 1 (.int) false := ⟨_, _, _, by decide, rfl, by decide, in_X25, q4147, rfl, tyX25_ok, nmX25, rfl, by decide⟩
set_option maxRecDepth 100000 in
theorem mvX12_condition : xMv YX12_condition 12 2 := ⟨_, _, _, by decide, rfl, ⟨q4307, plainFor_of_name pnX12, mhX12, pd8⟩, q4306, qs278⟩
set_option maxRecDepth 100000 in
theorem mvX12_checkCase : xMv YX12_checkCase 12 1 := ⟨_, _, _, by decide, rfl, ⟨q4412, plainFor_of_name pnX12, mhX12, pd0⟩, q4411, qs300⟩
set_option maxRecDepth 100000 in
theorem mvX12_checkFor : xMv YX12_checkFor 12 1 := ⟨_, _, _, by decide, rfl, ⟨q4416, plainFor_of_name pnX12, mhX12, pd0⟩, q4415, qs301⟩
set_option maxRecDepth 100000 in
theorem mvX12_checkWith : xMv YX12_checkWith 12 1 := ⟨_, _, _, by decide, rfl, ⟨q4420, plainFor_of_name pnX12, mhX12, pd0⟩, q4419, qs302⟩
set_option maxRecDepth 100000 in
theorem mvX12_checkGoto : xMv YX12_checkGoto 12 1 := ⟨_, _, _, by decide, rfl, ⟨q4424, plainFor_of_name pnX12, mhX12, pd0⟩, q4423, qs303⟩
set_option maxRecDepth 100000 in
theorem mvX12_checkAssign : xMv YX12_checkAssign 12 1 := ⟨_, _, _, by decide, rfl, ⟨q4447, plainFor_of_name pnX12, mhX12, pd0⟩, q4446, qs304⟩
set_option maxRecDepth 100000 in
theorem mvX12_checkCall : xMv YX12_checkCall 12 1 := ⟨_, _, _, by decide, rfl, ⟨q4451, plainFor_of_name pnX12, mhX12, pd0⟩, q4450, qs305⟩
set_option maxRecDepth 100000 in
theorem mvX12_checkE : xMv YX12_checkE 12 1 := ⟨_, _, _, by decide, rfl, ⟨q4311, plainFor_of_name pnX12, mhX12, pd47⟩, q4310, qs279⟩
set_option maxRecDepth 100000 in
theorem mvX12_checkSum : xMv YX12_checkSum 12 1 := ⟨_, _, _, by decide, rfl, ⟨q4315, plainFor_of_name pnX12, mhX12, pd47⟩, q4314, qs280⟩
set_option maxRecDepth 100000 in
theorem pd60 : (parseMethodDescriptor "(LPascalHouseModel$Type;LPascalHouseModel$Type;I)Z").map (fun s => s.parameters.length) = some 3 := by decide +kernel
set_option maxRecDepth 100000 in
theorem mvX12_areRelated : xMv YX12_areRelated 12 3 := ⟨_, _, _, by decide, rfl, ⟨q4408, plainFor_of_name pnX12, mhX12, pd60⟩, q4407, qs299⟩
set_option maxRecDepth 100000 in
theorem as_8_13 : xas 8 13 := ⟨_, _, _, _, by decide, rfl, by decide, rfl, Or.inl rfl⟩
set_option maxRecDepth 100000 in
theorem mvX12_checkTerm : xMv YX12_checkTerm 12 1 := ⟨_, _, _, by decide, rfl, ⟨q4319, plainFor_of_name pnX12, mhX12, pd47⟩, q4318, qs281⟩
set_option maxRecDepth 100000 in
theorem pd61 : (parseMethodDescriptor "(LPascalHouseModel$Type;LPascalHouseModel$Type;I)LPascalHouseModel$Type;").map (fun s => s.parameters.length) = some 3 := by decide +kernel
set_option maxRecDepth 100000 in
theorem mvX12_joined : xMv YX12_joined 12 3 := ⟨_, _, _, by decide, rfl, ⟨q4404, plainFor_of_name pnX12, mhX12, pd61⟩, q4403, qs298⟩
set_option maxRecDepth 100000 in
theorem mvX12_checkFactor : xMv YX12_checkFactor 12 1 := ⟨_, _, _, by decide, rfl, ⟨q4323, plainFor_of_name pnX12, mhX12, pd47⟩, q4322, qs282⟩
set_option maxRecDepth 100000 in
theorem mvX12_factorType : xMv YX12_factorType 12 1 := ⟨_, _, _, by decide, rfl, ⟨q4327, plainFor_of_name pnX12, mhX12, pd47⟩, q4326, qs283⟩
set_option maxRecDepth 100000 in
theorem mvX12_setType : xMv YX12_setType 12 1 := ⟨_, _, _, by decide, rfl, ⟨q4331, plainFor_of_name pnX12, mhX12, pd47⟩, q4330, qs284⟩
set_option maxRecDepth 100000 in
theorem mvX12_callType : xMv YX12_callType 12 1 := ⟨_, _, _, by decide, rfl, ⟨q4335, plainFor_of_name pnX12, mhX12, pd47⟩, q4334, qs285⟩
set_option maxRecDepth 100000 in
theorem mvX12_nameType : xMv YX12_nameType 12 1 := ⟨_, _, _, by decide, rfl, ⟨q4400, plainFor_of_name pnX12, mhX12, pd47⟩, q4399, qs297⟩
set_option maxRecDepth 100000 in
theorem as_9_23 : xas 9 23 := ⟨_, _, _, _, by decide, rfl, by decide, rfl, Or.inl rfl⟩
set_option maxRecDepth 100000 in
theorem pd62 : (parseMethodDescriptor "(ILPascalHouseModel$Symbol;I)LPascalHouseModel$Type;").map (fun s => s.parameters.length) = some 3 := by decide +kernel
set_option maxRecDepth 100000 in
theorem mvX12_functionThere : xMv YX12_functionThere 12 3 := ⟨_, _, _, by decide, rfl, ⟨q4339, plainFor_of_name pnX12, mhX12, pd62⟩, q4338, qs286⟩
set_option maxRecDepth 100000 in
theorem pd63 : (parseMethodDescriptor "(ILPascalHouseModel$Symbol;)V").map (fun s => s.parameters.length) = some 2 := by decide +kernel
set_option maxRecDepth 100000 in
theorem mvX12_argument : xMv YX12_argument 12 2 := ⟨_, _, _, by decide, rfl, ⟨q4359, plainFor_of_name pnX12, mhX12, pd63⟩, q4358, qs290⟩
set_option maxRecDepth 100000 in
theorem mvX12_fileArgument : xMv YX12_fileArgument 12 1 := ⟨_, _, _, by decide, rfl, ⟨q4343, plainFor_of_name pnX12, mhX12, pd51⟩, q4342, qs287⟩
set_option maxRecDepth 100000 in
theorem mvX13_isText : xMv YX13_isText 13 0 := ⟨_, _, _, by decide, rfl, ⟨q4355, plainFor_of_name pnX13, mhX13, pd6⟩, q4353, q4354⟩
set_option maxRecDepth 100000 in
theorem mvX12_fileOf : xMv YX12_fileOf 12 1 := ⟨_, _, _, by decide, rfl, ⟨q4347, plainFor_of_name pnX12, mhX12, pd51⟩, q4346, qs288⟩
set_option maxRecDepth 100000 in
theorem mvX12_loneVariable : xMv YX12_loneVariable 12 1 := ⟨_, _, _, by decide, rfl, ⟨q4351, plainFor_of_name pnX12, mhX12, pd7⟩, q4350, qs289⟩
set_option maxRecDepth 100000 in
theorem pd64 : (parseMethodDescriptor "(LPascalHouseModel$Type;LPascalHouseModel$Type;)Z").map (fun s => s.parameters.length) = some 2 := by decide +kernel
set_option maxRecDepth 100000 in
theorem mvX12_fits : xMv YX12_fits 12 2 := ⟨_, _, _, by decide, rfl, ⟨q4374, plainFor_of_name pnX12, mhX12, pd64⟩, q4373, qs293⟩
set_option maxRecDepth 100000 in
theorem mvX12_target : xMv YX12_target 12 1 := ⟨_, _, _, by decide, rfl, ⟨q4366, plainFor_of_name pnX12, mhX12, pd47⟩, q4365, qs291⟩
set_option maxRecDepth 100000 in
theorem pd65 : (parseMethodDescriptor "(LPascalHouseModel$Symbol;I)V").map (fun s => s.parameters.length) = some 2 := by decide +kernel
set_option maxRecDepth 100000 in
theorem mvX12_threaten : xMv YX12_threaten 12 2 := ⟨_, _, _, by decide, rfl, ⟨q4392, plainFor_of_name pnX12, mhX12, pd65⟩, q4391, qs295⟩
set_option maxRecDepth 100000 in
theorem pd66 : (parseMethodDescriptor "(LPascalHouseModel$Symbol;LPascalHouseModel$Symbol;)Z").map (fun s => s.parameters.length) = some 2 := by decide +kernel
set_option maxRecDepth 100000 in
theorem msX12_areCongruous : xMs YX12_areCongruous 2 := ⟨⟨q4362, plainFor_of_name pnX12, mhX12, pd66⟩, q4361, q402⟩
set_option maxRecDepth 100000 in
theorem mvX12_checkVariable : xMv YX12_checkVariable 12 1 := ⟨_, _, _, by decide, rfl, ⟨q4370, plainFor_of_name pnX12, mhX12, pd47⟩, q4369, qs292⟩
set_option maxRecDepth 100000 in
theorem mvX12_isTag : xMv YX12_isTag 12 1 := ⟨_, _, _, by decide, rfl, ⟨q4388, plainFor_of_name pnX12, mhX12, pd34⟩, q4387, qs294⟩
set_option maxRecDepth 100000 in
theorem msX12_areCompatible : xMs YX12_areCompatible 2 := ⟨⟨q4377, plainFor_of_name pnX12, mhX12, pd64⟩, q4376, q402⟩
set_option maxRecDepth 100000 in
theorem msX12_areSets : xMs YX12_areSets 2 := ⟨⟨q4380, plainFor_of_name pnX12, mhX12, pd64⟩, q4379, q402⟩
set_option maxRecDepth 100000 in
theorem mvX13_characters : xMv YX13_characters 13 0 := ⟨_, _, _, by decide, rfl, ⟨q4384, plainFor_of_name pnX13, mhX13, pd3⟩, q4382, q4383⟩
set_option maxRecDepth 100000 in
theorem pd67 : (parseMethodDescriptor "(LPascalHouseModel$Symbol;)Z").map (fun s => s.parameters.length) = some 1 := by decide +kernel
set_option maxRecDepth 100000 in
theorem mvX12_isControlled : xMv YX12_isControlled 12 1 := ⟨_, _, _, by decide, rfl, ⟨q4396, plainFor_of_name pnX12, mhX12, pd67⟩, q4395, qs296⟩
set_option maxRecDepth 100000 in
theorem fdX12_992 : xFd RX12 992 23 11 (.boolean) false := ⟨_, _, _, by decide, rfl, by decide, in_X23, q3954, rfl, tyX23_ok, nmX23, rfl, by decide⟩
set_option maxRecDepth 100000 in
theorem cdX12_814 : xCd RX12 814 27 3 := ⟨_, _, _, by decide, rfl, in_X27, tyX27_ok, q4425, q4426, q424⟩
set_option maxRecDepth 100000 in
theorem pnX27 : plainName RX27 = true := by decide +kernel
set_option maxRecDepth 100000 in
theorem mhX27 : RX27 ≠ "java/lang/invoke/MethodHandle" ∧ RX27 ≠ "java/lang/invoke/VarHandle" := by decide +kernel
set_option maxRecDepth 100000 in
theorem pd68 : (parseMethodDescriptor "(ILPascalHouseModel$Label;Z)V").map (fun s => s.parameters.length) = some 3 := by decide +kernel
set_option maxRecDepth 100000 in
theorem miX27_init : xMi YX27_init 3 := ⟨⟨q4429, plainFor_of_name pnX27, mhX27, pd68⟩, q4428, rfl, rfl, rfl⟩
set_option maxRecDepth 100000 in
theorem mvX12_checkThere : xMv YX12_checkThere 12 2 := ⟨_, _, _, by decide, rfl, ⟨q4455, plainFor_of_name pnX12, mhX12, pd63⟩, q4454, qs306⟩
set_option maxRecDepth 100000 in
theorem mvX12_colon : xMv YX12_colon 12 1 := ⟨_, _, _, by decide, rfl, ⟨q4463, plainFor_of_name pnX12, mhX12, pd0⟩, q4462, qs308⟩
set_option maxRecDepth 100000 in
theorem mvX12_checkTransfer : xMv YX12_checkTransfer 12 2 := ⟨_, _, _, by decide, rfl, ⟨q4459, plainFor_of_name pnX12, mhX12, pd8⟩, q4458, qs307⟩
set_option maxRecDepth 100000 in
theorem pd69 : (parseMethodDescriptor "(ILPascalHouseModel$Type;)V").map (fun s => s.parameters.length) = some 2 := by decide +kernel
set_option maxRecDepth 100000 in
theorem mvX12_checkWrite : xMv YX12_checkWrite 12 2 := ⟨_, _, _, by decide, rfl, ⟨q4471, plainFor_of_name pnX12, mhX12, pd69⟩, q4470, qs310⟩
set_option maxRecDepth 100000 in
theorem mvX12_checkRead : xMv YX12_checkRead 12 2 := ⟨_, _, _, by decide, rfl, ⟨q4467, plainFor_of_name pnX12, mhX12, pd69⟩, q4466, qs309⟩
set_option maxRecDepth 100000 in
theorem fdX12_823 : xFd RX12 823 27 1 (.object "PascalHouseModel$Label") true := ⟨_, _, _, by decide, rfl, by decide, in_X27, q4434, rfl, tyX27_ok, nmX27, rfl, by decide⟩
set_option maxRecDepth 100000 in
theorem fdX12_829 : xFd RX12 829 27 0 (.int) true := ⟨_, _, _, by decide, rfl, by decide, in_X27, q4432, rfl, tyX27_ok, nmX27, rfl, by decide⟩
set_option maxRecDepth 100000 in
theorem fdX12_831 : xFd RX12 831 27 2 (.boolean) true := ⟨_, _, _, by decide, rfl, by decide, in_X27, q4436, rfl, tyX27_ok, nmX27, rfl, by decide⟩
set_option maxRecDepth 100000 in
theorem pd70 : (parseMethodDescriptor "(II)Z").map (fun s => s.parameters.length) = some 2 := by decide +kernel
set_option maxRecDepth 100000 in
theorem mvX12_isWithin : xMv YX12_isWithin 12 2 := ⟨_, _, _, by decide, rfl, ⟨q4479, plainFor_of_name pnX12, mhX12, pd70⟩, q4478, qs312⟩
set_option maxRecDepth 100000 in
theorem msJ10_max : xMs YJ10_max 2 := ⟨⟨q847, by decide +kernel, mhJ10, pd31⟩, q846, q395⟩
set_option maxRecDepth 100000 in
theorem fdX12_1223 : xFd RX12 1223 12 103 (.int) false := ⟨_, _, _, by decide, rfl, by decide, in_X12, q3354, rfl, tyX12_ok, nmX12, rfl, by decide⟩
set_option maxRecDepth 100000 in
theorem fdX12_1226 : xFd RX12 1226 12 104 (.int) false := ⟨_, _, _, by decide, rfl, by decide, in_X12, q3355, rfl, tyX12_ok, nmX12, rfl, by decide⟩
set_option maxRecDepth 100000 in
theorem fdX12_1121 : xFd RX12 1121 12 98 (.boolean) false := ⟨_, _, _, by decide, rfl, by decide, in_X12, q3349, rfl, tyX12_ok, nmX12, rfl, by decide⟩
set_option maxRecDepth 100000 in
theorem fdX12_1124 : xFd RX12 1124 12 99 (.int) false := ⟨_, _, _, by decide, rfl, by decide, in_X12, q3350, rfl, tyX12_ok, nmX12, rfl, by decide⟩
set_option maxRecDepth 100000 in
theorem fdX12_1127 : xFd RX12 1127 12 100 (.int) false := ⟨_, _, _, by decide, rfl, by decide, in_X12, q3351, rfl, tyX12_ok, nmX12, rfl, by decide⟩
set_option maxRecDepth 100000 in
theorem fdX12_1360 : xFd RX12 1360 12 79 (.int) false := ⟨_, _, _, by decide, rfl, by decide, in_X12, q3330, rfl, tyX12_ok, nmX12, rfl, by decide⟩
set_option maxRecDepth 100000 in
theorem fdX12_1382 : xFd RX12 1382 12 80 (.int) false := ⟨_, _, _, by decide, rfl, by decide, in_X12, q3331, rfl, tyX12_ok, nmX12, rfl, by decide⟩
set_option maxRecDepth 100000 in
theorem fdX12_1436 : xFd RX12 1436 12 81 (.int) false := ⟨_, _, _, by decide, rfl, by decide, in_X12, q3332, rfl, tyX12_ok, nmX12, rfl, by decide⟩
set_option maxRecDepth 100000 in
theorem fdX12_1439 : xFd RX12 1439 12 84 (.int) false := ⟨_, _, _, by decide, rfl, by decide, in_X12, q3335, rfl, tyX12_ok, nmX12, rfl, by decide⟩
set_option maxRecDepth 100000 in
theorem fdX12_1433 : xFd RX12 1433 12 85 (.int) false := ⟨_, _, _, by decide, rfl, by decide, in_X12, q3336, rfl, tyX12_ok, nmX12, rfl, by decide⟩
set_option maxRecDepth 100000 in
theorem fdX12_1348 : xFd RX12 1348 12 97 (.int) false := ⟨_, _, _, by decide, rfl, by decide, in_X12, q3348, rfl, tyX12_ok, nmX12, rfl, by decide⟩
set_option maxRecDepth 100000 in
theorem fdX12_1175 : xFd RX12 1175 12 118 (.int) false := ⟨_, _, _, by decide, rfl, by decide, in_X12, q3369, rfl, tyX12_ok, nmX12, rfl, by decide⟩
set_option maxRecDepth 100000 in
theorem fdX12_1186 : xFd RX12 1186 12 119 (.int) false := ⟨_, _, _, by decide, rfl, by decide, in_X12, q3370, rfl, tyX12_ok, nmX12, rfl, by decide⟩
set_option maxRecDepth 100000 in
theorem fdX12_1183 : xFd RX12 1183 12 125 (.int) false := ⟨_, _, _, by decide, rfl, by decide, in_X12, q3376, rfl, tyX12_ok, nmX12, rfl, by decide⟩
set_option maxRecDepth 100000 in
theorem fdX12_1130 : xFd RX12 1130 12 91 (.int) false := ⟨_, _, _, by decide, rfl, by decide, in_X12, q3342, rfl, tyX12_ok, nmX12, rfl, by decide⟩
set_option maxRecDepth 100000 in
theorem fdX12_1357 : xFd RX12 1357 12 92 (.int) false := ⟨_, _, _, by decide, rfl, by decide, in_X12, q3343, rfl, tyX12_ok, nmX12, rfl, by decide⟩
set_option maxRecDepth 100000 in
theorem fdX12_1376 : xFd RX12 1376 12 93 (.int) false := ⟨_, _, _, by decide, rfl, by decide, in_X12, q3344, rfl, tyX12_ok, nmX12, rfl, by decide⟩
set_option maxRecDepth 100000 in
theorem fdX12_1497 : xFd RX12 1497 12 129 (.boolean) false := ⟨_, _, _, by decide, rfl, by decide, in_X12, q3380, rfl, tyX12_ok, nmX12, rfl, by decide⟩
set_option maxRecDepth 100000 in
theorem mvX12_blank : xMv YX12_blank 12 2 := ⟨_, _, _, by decide, rfl, ⟨q4497, plainFor_of_name pnX12, mhX12, pd8⟩, q4496, qs314⟩
set_option maxRecDepth 100000 in
theorem mvX12_error : xMv YX12_error 12 2 := ⟨_, _, _, by decide, rfl, ⟨q4493, plainFor_of_name pnX12, mhX12, pd8⟩, q4492, qs313⟩
set_option maxRecDepth 100000 in
theorem mvX12_newFile : xMv YX12_newFile 12 2 := ⟨_, _, _, by decide, rfl, ⟨q4501, plainFor_of_name pnX12, mhX12, pd69⟩, q4500, qs315⟩
set_option maxRecDepth 100000 in
theorem pd71 : (parseMethodDescriptor "(LPascalHouseModel$Symbol;)I").map (fun s => s.parameters.length) = some 1 := by decide +kernel
set_option maxRecDepth 100000 in
theorem mvX12_fileOfRun : xMv YX12_fileOfRun 12 1 := ⟨_, _, _, by decide, rfl, ⟨q4505, plainFor_of_name pnX12, mhX12, pd71⟩, q4504, qs316⟩
set_option maxRecDepth 100000 in
theorem mvX12_reset : xMv YX12_reset 12 2 := ⟨_, _, _, by decide, rfl, ⟨q4525, plainFor_of_name pnX12, mhX12, pd8⟩, q4524, qs321⟩
set_option maxRecDepth 100000 in
theorem mvX12_linkByte : xMv YX12_linkByte 12 2 := ⟨_, _, _, by decide, rfl, ⟨q4517, plainFor_of_name pnX12, mhX12, pd8⟩, q4516, qs319⟩
set_option maxRecDepth 100000 in
theorem mvX12_rewrite : xMv YX12_rewrite 12 1 := ⟨_, _, _, by decide, rfl, ⟨q4534, plainFor_of_name pnX12, mhX12, pd0⟩, q4533, qs323⟩
set_option maxRecDepth 100000 in
theorem mvX12_execute : xMv YX12_execute 12 1 := ⟨_, _, _, by decide, rfl, ⟨q4542, plainFor_of_name pnX12, mhX12, pd0⟩, q4541, qs325⟩
set_option maxRecDepth 100000 in
theorem mvX12_addressOf : xMv YX12_addressOf 12 1 := ⟨_, _, _, by decide, rfl, ⟨q4509, plainFor_of_name pnX12, mhX12, pd71⟩, q4508, qs317⟩
set_option maxRecDepth 100000 in
theorem mvX12_frameOf : xMv YX12_frameOf 12 1 := ⟨_, _, _, by decide, rfl, ⟨q4513, plainFor_of_name pnX12, mhX12, pd7⟩, q4512, qs318⟩
set_option maxRecDepth 100000 in
theorem mvX12_link : xMv YX12_link 12 1 := ⟨_, _, _, by decide, rfl, ⟨q4521, plainFor_of_name pnX12, mhX12, pd7⟩, q4520, qs320⟩
set_option maxRecDepth 100000 in
theorem mvX12_bringBuffer : xMv YX12_bringBuffer 12 1 := ⟨_, _, _, by decide, rfl, ⟨q4529, plainFor_of_name pnX12, mhX12, pd0⟩, q4528, qs322⟩
set_option maxRecDepth 100000 in
theorem mvX12_empty : xMv YX12_empty 12 1 := ⟨_, _, _, by decide, rfl, ⟨q4538, plainFor_of_name pnX12, mhX12, pd0⟩, q4537, qs324⟩
set_option maxRecDepth 100000 in
theorem mvX12_evaluate : xMv YX12_evaluate 12 1 := ⟨_, _, _, by decide, rfl, ⟨q4546, plainFor_of_name pnX12, mhX12, pd0⟩, q4545, qs326⟩
set_option maxRecDepth 100000 in
theorem fdX12_1145 : xFd RX12 1145 12 105 (.long) false := ⟨_, _, _, by decide, rfl, by decide, in_X12, q3356, rfl, tyX12_ok, nmX12, rfl, by decide⟩
set_option maxRecDepth 100000 in
theorem mvX12_itemOf : xMv YX12_itemOf 12 1 := ⟨_, _, _, by decide, rfl, ⟨q4696, plainFor_of_name pnX12, mhX12, pd7⟩, q4695, qs349⟩
set_option maxRecDepth 100000 in
theorem mvX12_openAll : xMv YX12_openAll 12 1 := ⟨_, _, _, by decide, rfl, ⟨q4704, plainFor_of_name pnX12, mhX12, pd7⟩, q4703, qs351⟩
set_option maxRecDepth 100000 in
theorem fdX12_1388 : xFd RX12 1388 12 101 (.int) false := ⟨_, _, _, by decide, rfl, by decide, in_X12, q3352, rfl, tyX12_ok, nmX12, rfl, by decide⟩
set_option maxRecDepth 100000 in
theorem fdX12_1385 : xFd RX12 1385 12 102 (.int) false := ⟨_, _, _, by decide, rfl, by decide, in_X12, q3353, rfl, tyX12_ok, nmX12, rfl, by decide⟩
set_option maxRecDepth 100000 in
theorem mvX12_assign : xMv YX12_assign 12 1 := ⟨_, _, _, by decide, rfl, ⟨q4708, plainFor_of_name pnX12, mhX12, pd0⟩, q4707, qs352⟩
set_option maxRecDepth 100000 in
theorem mvX12_work : xMv YX12_work 12 2 := ⟨_, _, _, by decide, rfl, ⟨q4724, plainFor_of_name pnX12, mhX12, pd8⟩, q4723, qs356⟩
set_option maxRecDepth 100000 in
theorem pd72 : (parseMethodDescriptor "(LPascalHouseModel$Symbol;IZI)V").map (fun s => s.parameters.length) = some 4 := by decide +kernel
set_option maxRecDepth 100000 in
theorem mvX12_call : xMv YX12_call 12 4 := ⟨_, _, _, by decide, rfl, ⟨q4610, plainFor_of_name pnX12, mhX12, pd72⟩, q4609, qs330⟩
set_option maxRecDepth 100000 in
theorem pd73 : (parseMethodDescriptor "(IJJ)V").map (fun s => s.parameters.length) = some 3 := by decide +kernel
set_option maxRecDepth 100000 in
theorem mvX12_bounds : xMv YX12_bounds 12 3 := ⟨_, _, _, by decide, rfl, ⟨q4700, plainFor_of_name pnX12, mhX12, pd73⟩, q4699, qs350⟩
set_option maxRecDepth 100000 in
theorem pd74 : (parseMethodDescriptor "(JJDILPascalHouseModel$Type;LPascalHouseModel$Type;I)V").map (fun s => s.parameters.length) = some 7 := by decide +kernel
set_option maxRecDepth 100000 in
theorem mvX12_relate : xMv YX12_relate 12 7 := ⟨_, _, _, by decide, rfl, ⟨q4679, plainFor_of_name pnX12, mhX12, pd74⟩, q4678, qs346⟩
set_option maxRecDepth 100000 in
theorem fdX12_1148 : xFd RX12 1148 12 106 (.long) false := ⟨_, _, _, by decide, rfl, by decide, in_X12, q3357, rfl, tyX12_ok, nmX12, rfl, by decide⟩
set_option maxRecDepth 100000 in
theorem fdX12_1151 : xFd RX12 1151 12 107 (.double) false := ⟨_, _, _, by decide, rfl, by decide, in_X12, q3358, rfl, tyX12_ok, nmX12, rfl, by decide⟩
set_option maxRecDepth 100000 in
theorem fdX12_1136 : xFd RX12 1136 12 108 (.int) false := ⟨_, _, _, by decide, rfl, by decide, in_X12, q3359, rfl, tyX12_ok, nmX12, rfl, by decide⟩
set_option maxRecDepth 100000 in
theorem mvX12_negate : xMv YX12_negate 12 0 := ⟨_, _, _, by decide, rfl, ⟨q4675, plainFor_of_name pnX12, mhX12, pd1⟩, q4674, qs345⟩
set_option maxRecDepth 100000 in
theorem pd75 : (parseMethodDescriptor "(JJDLPascalHouseModel$Type;LPascalHouseModel$Type;I)V").map (fun s => s.parameters.length) = some 6 := by decide +kernel
set_option maxRecDepth 100000 in
theorem mvX12_operate : xMv YX12_operate 12 6 := ⟨_, _, _, by decide, rfl, ⟨q4666, plainFor_of_name pnX12, mhX12, pd75⟩, q4665, qs343⟩
set_option maxRecDepth 100000 in
theorem mvX12_factor : xMv YX12_factor 12 1 := ⟨_, _, _, by decide, rfl, ⟨q4662, plainFor_of_name pnX12, mhX12, pd0⟩, q4661, qs342⟩
set_option maxRecDepth 100000 in
theorem mvX12_members : xMv YX12_members 12 1 := ⟨_, _, _, by decide, rfl, ⟨q4550, plainFor_of_name pnX12, mhX12, pd0⟩, q4549, qs327⟩
set_option maxRecDepth 100000 in
theorem mvX12_there : xMv YX12_there 12 3 := ⟨_, _, _, by decide, rfl, ⟨q4561, plainFor_of_name pnX12, mhX12, pd35⟩, q4560, qs328⟩
set_option maxRecDepth 100000 in
theorem mvX12_meant : xMv YX12_meant 12 1 := ⟨_, _, _, by decide, rfl, ⟨q4658, plainFor_of_name pnX12, mhX12, pd0⟩, q4657, qs341⟩
set_option maxRecDepth 100000 in
theorem mvX12_find1 : xMv YX12_find1 12 1 := ⟨_, _, _, by decide, rfl, ⟨q4618, plainFor_of_name pnX12, mhX12, pd0⟩, q4617, qs332⟩
set_option maxRecDepth 100000 in
theorem fdX12_1236 : xFd RX12 1236 12 109 (.int) false := ⟨_, _, _, by decide, rfl, by decide, in_X12, q3360, rfl, tyX12_ok, nmX12, rfl, by decide⟩
set_option maxRecDepth 100000 in
theorem pd76 : (parseMethodDescriptor "(ILPascalHouseModel$Type;I)V").map (fun s => s.parameters.length) = some 3 := by decide +kernel
set_option maxRecDepth 100000 in
theorem mvX12_load : xMv YX12_load 12 3 := ⟨_, _, _, by decide, rfl, ⟨q4654, plainFor_of_name pnX12, mhX12, pd76⟩, q4653, qs340⟩
set_option maxRecDepth 100000 in
theorem fdX12_1265 : xFd RX12 1265 12 126 (.object "PascalHouseModel$Type") false := ⟨_, _, _, by decide, rfl, by decide, in_X12, q3377, rfl, tyX12_ok, nmX12, rfl, by decide⟩
set_option maxRecDepth 100000 in
theorem msX12_lowerBits : xMs YX12_lowerBits 2 := ⟨⟨q4554, plainFor_of_name pnX12, mhX12, pd37⟩, q4553, q402⟩
set_option maxRecDepth 100000 in
theorem msX12_upperBits : xMs YX12_upperBits 2 := ⟨⟨q4557, plainFor_of_name pnX12, mhX12, pd37⟩, q4556, q402⟩
set_option maxRecDepth 100000 in
theorem pd77 : (parseMethodDescriptor "(J)J").map (fun s => s.parameters.length) = some 1 := by decide +kernel
set_option maxRecDepth 100000 in
theorem msJ10_abs : xMs YJ10_abs 1 := ⟨⟨q4564, by decide +kernel, mhJ10, pd77⟩, q4563, q395⟩
set_option maxRecDepth 100000 in
theorem pd78 : (parseMethodDescriptor "(D)Z").map (fun s => s.parameters.length) = some 1 := by decide +kernel
set_option maxRecDepth 100000 in
theorem msX12_isFinite : xMs YX12_isFinite 1 := ⟨⟨q4573, plainFor_of_name pnX12, mhX12, pd78⟩, q4572, q402⟩
set_option maxRecDepth 100000 in
theorem pd79 : (parseMethodDescriptor "(DI)V").map (fun s => s.parameters.length) = some 2 := by decide +kernel
set_option maxRecDepth 100000 in
theorem mvX12_cut : xMv YX12_cut 12 2 := ⟨_, _, _, by decide, rfl, ⟨q4602, plainFor_of_name pnX12, mhX12, pd79⟩, q4601, qs329⟩
set_option maxRecDepth 100000 in
theorem pd80 : (parseMethodDescriptor "(D)D").map (fun s => s.parameters.length) = some 1 := by decide +kernel
set_option maxRecDepth 100000 in
theorem msX12_rootOf : xMs YX12_rootOf 1 := ⟨⟨q4578, plainFor_of_name pnX12, mhX12, pd80⟩, q4577, q402⟩
set_option maxRecDepth 100000 in
theorem pnJ20 : plainName RJ20 = true := by decide +kernel
set_option maxRecDepth 100000 in
theorem mhJ20 : RJ20 ≠ "java/lang/invoke/MethodHandle" ∧ RJ20 ≠ "java/lang/invoke/VarHandle" := by decide +kernel
set_option maxRecDepth 100000 in
theorem pd81 : (parseMethodDescriptor "(D)J").map (fun s => s.parameters.length) = some 1 := by decide +kernel
set_option maxRecDepth 100000 in
theorem msJ20_doubleToLongBits : xMs YJ20_doubleToLongBits 1 := ⟨⟨q4581, plainFor_of_name pnJ20, mhJ20, pd81⟩, q4580, q429⟩
set_option maxRecDepth 100000 in
theorem pnJ22 : plainName RJ22 = true := by decide +kernel
set_option maxRecDepth 100000 in
theorem mhJ22 : RJ22 ≠ "java/lang/invoke/MethodHandle" ∧ RJ22 ≠ "java/lang/invoke/VarHandle" := by decide +kernel
set_option maxRecDepth 100000 in
theorem msJ22_numberOfLeadingZeros : xMs YJ22_numberOfLeadingZeros 1 := ⟨⟨q4593, plainFor_of_name pnJ22, mhJ22, pd5⟩, q4592, q431⟩
set_option maxRecDepth 100000 in
theorem mvX12_giveValue : xMv YX12_giveValue 12 3 := ⟨_, _, _, by decide, rfl, ⟨q4626, plainFor_of_name pnX12, mhX12, pd58⟩, q4625, qs334⟩
set_option maxRecDepth 100000 in
theorem mvX12_giveRoutine : xMv YX12_giveRoutine 12 2 := ⟨_, _, _, by decide, rfl, ⟨q4614, plainFor_of_name pnX12, mhX12, pd65⟩, q4613, qs331⟩
set_option maxRecDepth 100000 in
theorem mvX12_enterRoutine : xMv YX12_enterRoutine 12 2 := ⟨_, _, _, by decide, rfl, ⟨q4638, plainFor_of_name pnX12, mhX12, pd65⟩, q4637, qs336⟩
set_option maxRecDepth 100000 in
theorem mvX12_leaveRoutine : xMv YX12_leaveRoutine 12 3 := ⟨_, _, _, by decide, rfl, ⟨q4650, plainFor_of_name pnX12, mhX12, pd35⟩, q4649, qs339⟩
set_option maxRecDepth 100000 in
theorem pd82 : (parseMethodDescriptor "(LPascalHouseModel$Symbol;II)V").map (fun s => s.parameters.length) = some 3 := by decide +kernel
set_option maxRecDepth 100000 in
theorem mvX12_receive : xMv YX12_receive 12 3 := ⟨_, _, _, by decide, rfl, ⟨q4642, plainFor_of_name pnX12, mhX12, pd82⟩, q4641, qs337⟩
set_option maxRecDepth 100000 in
theorem pd83 : (parseMethodDescriptor "(LPascalHouseModel$Variants;III)V").map (fun s => s.parameters.length) = some 4 := by decide +kernel
set_option maxRecDepth 100000 in
theorem mvX12_activate : xMv YX12_activate 12 4 := ⟨_, _, _, by decide, rfl, ⟨q4622, plainFor_of_name pnX12, mhX12, pd83⟩, q4621, qs333⟩
set_option maxRecDepth 100000 in
theorem fdX12_1213 : xFd RX12 1213 26 0 (.object "PascalHouseModel$Variants") true := ⟨_, _, _, by decide, rfl, by decide, in_X26, q4214, rfl, tyX26_ok, nmX26, rfl, by decide⟩
set_option maxRecDepth 100000 in
theorem fdX12_1216 : xFd RX12 1216 26 1 (.int) true := ⟨_, _, _, by decide, rfl, by decide, in_X26, q4216, rfl, tyX26_ok, nmX26, rfl, by decide⟩
set_option maxRecDepth 100000 in
theorem mvX13_isKept : xMv YX13_isKept 13 0 := ⟨_, _, _, by decide, rfl, ⟨q4630, plainFor_of_name pnX13, mhX13, pd6⟩, q4628, q4629⟩
set_option maxRecDepth 100000 in
theorem pd84 : (parseMethodDescriptor "(LPascalHouseModel$Type;LPascalHouseModel$Type;I)V").map (fun s => s.parameters.length) = some 3 := by decide +kernel
set_option maxRecDepth 100000 in
theorem mvX12_suit : xMv YX12_suit 12 3 := ⟨_, _, _, by decide, rfl, ⟨q4634, plainFor_of_name pnX12, mhX12, pd84⟩, q4633, qs335⟩
set_option maxRecDepth 100000 in
theorem mvX12_copy : xMv YX12_copy 12 3 := ⟨_, _, _, by decide, rfl, ⟨q4646, plainFor_of_name pnX12, mhX12, pd35⟩, q4645, qs338⟩
set_option maxRecDepth 100000 in
theorem pd85 : (parseMethodDescriptor "(JJI)V").map (fun s => s.parameters.length) = some 3 := by decide +kernel
set_option maxRecDepth 100000 in
theorem mvX12_whole : xMv YX12_whole 12 3 := ⟨_, _, _, by decide, rfl, ⟨q4670, plainFor_of_name pnX12, mhX12, pd85⟩, q4669, qs344⟩
set_option maxRecDepth 100000 in
theorem mvX12_isWhole : xMv YX12_isWhole 12 2 := ⟨_, _, _, by decide, rfl, ⟨q4685, plainFor_of_name pnX12, mhX12, pd70⟩, q4684, qs347⟩
set_option maxRecDepth 100000 in
theorem mvX12_signAt : xMv YX12_signAt 12 2 := ⟨_, _, _, by decide, rfl, ⟨q4689, plainFor_of_name pnX12, mhX12, pd31⟩, q4688, qs348⟩
set_option maxRecDepth 100000 in
theorem msX12_holds : xMs YX12_holds 2 := ⟨⟨q4692, plainFor_of_name pnX12, mhX12, pd70⟩, q4691, q402⟩
set_option maxRecDepth 100000 in
theorem pd86 : (parseMethodDescriptor "(I)LPascalHouseModel$Variants;").map (fun s => s.parameters.length) = some 1 := by decide +kernel
set_option maxRecDepth 100000 in
theorem mvX12_tagged : xMv YX12_tagged 12 1 := ⟨_, _, _, by decide, rfl, ⟨q4712, plainFor_of_name pnX12, mhX12, pd86⟩, q4711, qs353⟩
set_option maxRecDepth 100000 in
theorem pd87 : (parseMethodDescriptor "(ILPascalHouseModel$Type;LPascalHouseModel$Type;I)V").map (fun s => s.parameters.length) = some 4 := by decide +kernel
set_option maxRecDepth 100000 in
theorem mvX12_store : xMv YX12_store 12 4 := ⟨_, _, _, by decide, rfl, ⟨q4716, plainFor_of_name pnX12, mhX12, pd87⟩, q4715, qs354⟩
set_option maxRecDepth 100000 in
theorem mvX12_keep : xMv YX12_keep 12 1 := ⟨_, _, _, by decide, rfl, ⟨q4720, plainFor_of_name pnX12, mhX12, pd0⟩, q4719, qs355⟩
set_option maxRecDepth 100000 in
theorem mvX12_make : xMv YX12_make 12 2 := ⟨_, _, _, by decide, rfl, ⟨q4810, plainFor_of_name pnX12, mhX12, pd8⟩, q4809, qs375⟩
set_option maxRecDepth 100000 in
theorem mvX12_putBuffer : xMv YX12_putBuffer 12 2 := ⟨_, _, _, by decide, rfl, ⟨q4802, plainFor_of_name pnX12, mhX12, pd8⟩, q4801, qs373⟩
set_option maxRecDepth 100000 in
theorem mvX12_get : xMv YX12_get 12 2 := ⟨_, _, _, by decide, rfl, ⟨q4806, plainFor_of_name pnX12, mhX12, pd8⟩, q4805, qs374⟩
set_option maxRecDepth 100000 in
theorem mvX12_writeAll : xMv YX12_writeAll 12 2 := ⟨_, _, _, by decide, rfl, ⟨q4759, plainFor_of_name pnX12, mhX12, pd8⟩, q4758, qs363⟩
set_option maxRecDepth 100000 in
theorem mvX12_readAll : xMv YX12_readAll 12 2 := ⟨_, _, _, by decide, rfl, ⟨q4728, plainFor_of_name pnX12, mhX12, pd8⟩, q4727, qs357⟩
set_option maxRecDepth 100000 in
theorem mvX12_goOn : xMv YX12_goOn 12 1 := ⟨_, _, _, by decide, rfl, ⟨q4740, plainFor_of_name pnX12, mhX12, pd0⟩, q4739, qs360⟩
set_option maxRecDepth 100000 in
theorem pd88 : (parseMethodDescriptor "(IILPascalHouseModel$Type;I)V").map (fun s => s.parameters.length) = some 4 := by decide +kernel
set_option maxRecDepth 100000 in
theorem mvX12_readPart : xMv YX12_readPart 12 4 := ⟨_, _, _, by decide, rfl, ⟨q4755, plainFor_of_name pnX12, mhX12, pd88⟩, q4754, qs362⟩
set_option maxRecDepth 100000 in
theorem pd89 : (parseMethodDescriptor "(IILPascalHouseModel$Type;II)V").map (fun s => s.parameters.length) = some 5 := by decide +kernel
set_option maxRecDepth 100000 in
theorem mvX12_readNumber : xMv YX12_readNumber 12 5 := ⟨_, _, _, by decide, rfl, ⟨q4732, plainFor_of_name pnX12, mhX12, pd89⟩, q4731, qs358⟩
set_option maxRecDepth 100000 in
theorem mvX12_signHere : xMv YX12_signHere 12 1 := ⟨_, _, _, by decide, rfl, ⟨q4736, plainFor_of_name pnX12, mhX12, pd7⟩, q4735, qs359⟩
set_option maxRecDepth 100000 in
theorem mvX12_signBehind : xMv YX12_signBehind 12 1 := ⟨_, _, _, by decide, rfl, ⟨q4750, plainFor_of_name pnX12, mhX12, pd7⟩, q4749, qs361⟩
set_option maxRecDepth 100000 in
theorem pd90 : (parseMethodDescriptor "(LPascalHouseModel$Type;)I").map (fun s => s.parameters.length) = some 1 := by decide +kernel
set_option maxRecDepth 100000 in
theorem msX12_weight : xMs YX12_weight 1 := ⟨⟨q4743, plainFor_of_name pnX12, mhX12, pd90⟩, q4742, q402⟩
set_option maxRecDepth 100000 in
theorem msJ10_max_2 : xMs YJ10_max_2 2 := ⟨⟨q4746, by decide +kernel, mhJ10, pd56⟩, q4745, q395⟩
set_option maxRecDepth 100000 in
theorem mvX12_writePart : xMv YX12_writePart 12 3 := ⟨_, _, _, by decide, rfl, ⟨q4798, plainFor_of_name pnX12, mhX12, pd35⟩, q4797, qs372⟩
set_option maxRecDepth 100000 in
theorem mvX12_writeText : xMv YX12_writeText 12 3 := ⟨_, _, _, by decide, rfl, ⟨q4763, plainFor_of_name pnX12, mhX12, pd35⟩, q4762, qs364⟩
set_option maxRecDepth 100000 in
theorem mvX12_hasRoom : xMv YX12_hasRoom 12 2 := ⟨_, _, _, by decide, rfl, ⟨q4773, plainFor_of_name pnX12, mhX12, pd70⟩, q4772, qs366⟩
set_option maxRecDepth 100000 in
theorem fdX12_1468 : xFd RX12 1468 12 128 (.int) false := ⟨_, _, _, by decide, rfl, by decide, in_X12, q3379, rfl, tyX12_ok, nmX12, rfl, by decide⟩
set_option maxRecDepth 100000 in
theorem mvX12_say : xMv YX12_say 12 1 := ⟨_, _, _, by decide, rfl, ⟨q4782, plainFor_of_name pnX12, mhX12, pd0⟩, q4781, qs368⟩
set_option maxRecDepth 100000 in
theorem pd91 : (parseMethodDescriptor "(J)V").map (fun s => s.parameters.length) = some 1 := by decide +kernel
set_option maxRecDepth 100000 in
theorem mvX12_spellWhole : xMv YX12_spellWhole 12 1 := ⟨_, _, _, by decide, rfl, ⟨q4790, plainFor_of_name pnX12, mhX12, pd91⟩, q4789, qs370⟩
set_option maxRecDepth 100000 in
theorem pd92 : (parseMethodDescriptor "(IIIIZI)V").map (fun s => s.parameters.length) = some 6 := by decide +kernel
set_option maxRecDepth 100000 in
theorem mvX12_layOut : xMv YX12_layOut 12 6 := ⟨_, _, _, by decide, rfl, ⟨q4769, plainFor_of_name pnX12, mhX12, pd92⟩, q4768, qs365⟩
set_option maxRecDepth 100000 in
theorem pd93 : (parseMethodDescriptor "(DII)V").map (fun s => s.parameters.length) = some 3 := by decide +kernel
set_option maxRecDepth 100000 in
theorem mvX12_spellReal : xMv YX12_spellReal 12 3 := ⟨_, _, _, by decide, rfl, ⟨q4777, plainFor_of_name pnX12, mhX12, pd93⟩, q4776, qs367⟩
set_option maxRecDepth 100000 in
theorem pd94 : (parseMethodDescriptor "(Ljava/lang/String;)V").map (fun s => s.parameters.length) = some 1 := by decide +kernel
set_option maxRecDepth 100000 in
theorem mvX12_spellWord : xMv YX12_spellWord 12 1 := ⟨_, _, _, by decide, rfl, ⟨q4794, plainFor_of_name pnX12, mhX12, pd94⟩, q4793, qs371⟩
set_option maxRecDepth 100000 in
theorem pd95 : (parseMethodDescriptor "(JI)V").map (fun s => s.parameters.length) = some 2 := by decide +kernel
set_option maxRecDepth 100000 in
theorem mvX12_spellDigits : xMv YX12_spellDigits 12 2 := ⟨_, _, _, by decide, rfl, ⟨q4786, plainFor_of_name pnX12, mhX12, pd95⟩, q4785, qs369⟩
set_option maxRecDepth 100000 in
theorem fdX18_9 : xFd RX18 9 18 3 (.int) false := ⟨_, _, _, by decide, rfl, by decide, in_X18, q2214, rfl, tyX18_ok, nmX18, rfl, by decide⟩
set_option maxRecDepth 100000 in
theorem fdX18_15 : xFd RX18 15 18 4 (.int) false := ⟨_, _, _, by decide, rfl, by decide, in_X18, q2216, rfl, tyX18_ok, nmX18, rfl, by decide⟩
set_option maxRecDepth 100000 in
theorem fdX18_18 : xFd RX18 18 18 0 (.int) true := ⟨_, _, _, by decide, rfl, by decide, in_X18, q2209, rfl, tyX18_ok, nmX18, rfl, by decide⟩
set_option maxRecDepth 100000 in
theorem owX18_init_0 : xOwn YX18_init 18 0 := ⟨rfl, _, _, rfl, rfl⟩
set_option maxRecDepth 100000 in
theorem fdX18_21 : xFd RX18 21 18 1 (.int) true := ⟨_, _, _, by decide, rfl, by decide, in_X18, q2211, rfl, tyX18_ok, nmX18, rfl, by decide⟩
set_option maxRecDepth 100000 in
theorem owX18_init_1 : xOwn YX18_init 18 1 := ⟨rfl, _, _, rfl, rfl⟩
set_option maxRecDepth 100000 in
theorem pnJ19 : plainName RJ19 = true := by decide +kernel
set_option maxRecDepth 100000 in
theorem mhJ19 : RJ19 ≠ "java/lang/invoke/MethodHandle" ∧ RJ19 ≠ "java/lang/invoke/VarHandle" := by decide +kernel
set_option maxRecDepth 100000 in
theorem pd96 : (parseMethodDescriptor "(D)I").map (fun s => s.parameters.length) = some 1 := by decide +kernel
set_option maxRecDepth 100000 in
theorem msJ19___HI : xMs YJ19___HI 1 := ⟨⟨q3042, plainFor_of_name pnJ19, mhJ19, pd96⟩, q3041, q427⟩
set_option maxRecDepth 100000 in
theorem msJ19___LO : xMs YJ19___LO 1 := ⟨⟨q3048, plainFor_of_name pnJ19, mhJ19, pd96⟩, q3047, q427⟩
set_option maxRecDepth 100000 in
theorem pnJ21 : plainName RJ21 = true := by decide +kernel
set_option maxRecDepth 100000 in
theorem mhJ21 : RJ21 ≠ "java/lang/invoke/MethodHandle" ∧ RJ21 ≠ "java/lang/invoke/VarHandle" := by decide +kernel
set_option maxRecDepth 100000 in
theorem msJ21_compareUnsigned : xMs YJ21_compareUnsigned 2 := ⟨⟨q3055, plainFor_of_name pnJ21, mhJ21, pd31⟩, q3054, q430⟩
set_option maxRecDepth 100000 in
theorem pd97 : (parseMethodDescriptor "(II)D").map (fun s => s.parameters.length) = some 2 := by decide +kernel
set_option maxRecDepth 100000 in
theorem msJ19___HI_LO : xMs YJ19___HI_LO 2 := ⟨⟨q3063, plainFor_of_name pnJ19, mhJ19, pd97⟩, q3062, q427⟩
set_option maxRecDepth 100000 in
theorem cwJ11_150 : xcpw RJ11 150 := ⟨q866, q868, q867, q397⟩
set_option maxRecDepth 100000 in
theorem kwJ11_310 : xclw RJ11 310 := ⟨q856, q857, q858, q859, q860, List.mem_filter.mpr ⟨q861, rfl⟩⟩
set_option maxRecDepth 100000 in
theorem pd98 : (parseMethodDescriptor "([BII)[B").map (fun s => s.parameters.length) = some 3 := by decide +kernel
set_option maxRecDepth 100000 in
theorem msJ11_copyOfRangeByte : xMs YJ11_copyOfRangeByte 3 := ⟨⟨q936, plainFor_of_name pnJ11, mhJ11, pd98⟩, q935, q396⟩
set_option maxRecDepth 100000 in
theorem msJ11_checkLength : xMs YJ11_checkLength 2 := ⟨⟨q939, plainFor_of_name pnJ11, mhJ11, pd8⟩, q938, q396⟩
set_option maxRecDepth 100000 in
theorem pd99 : (parseMethodDescriptor "([Ljava/lang/Object;ILjava/lang/Class;)[Ljava/lang/Object;").map (fun s => s.parameters.length) = some 3 := by decide +kernel
set_option maxRecDepth 100000 in
theorem msJ11_copyOf_3 : xMs YJ11_copyOf_3 3 := ⟨⟨q1070, plainFor_of_name pnJ11, mhJ11, pd99⟩, q1069, q396⟩
set_option maxRecDepth 100000 in
theorem anJ11_2 : xAd RJ11 2 5 := ⟨_, by decide, rfl, q1072, by simp [xao]⟩
set_option maxRecDepth 100000 in
theorem msJ11_rangeCheck : xMs YJ11_rangeCheck 3 := ⟨⟨q1089, plainFor_of_name pnJ11, mhJ11, pd35⟩, q1088, q396⟩
set_option maxRecDepth 100000 in
theorem cdX16_9 : xCd RX16 9 28 3 := ⟨_, _, _, by decide, rfl, in_J2, tyJ2_ok, q2021, q501, q382⟩
set_option maxRecDepth 100000 in
theorem fdX16_14 : xFd RX16 14 16 3 (.object "java/util/ArrayList") true := ⟨_, _, _, by decide, rfl, by decide, in_X16, q2030, rfl, tyX16_ok, nmX16, rfl, by decide⟩
set_option maxRecDepth 100000 in
theorem owX16_init_3 : xOwn YX16_init 16 3 := ⟨rfl, _, _, rfl, rfl⟩
set_option maxRecDepth 100000 in
theorem fdX16_20 : xFd RX16 20 16 7 (.int) false := ⟨_, _, _, by decide, rfl, by decide, in_X16, q2038, rfl, tyX16_ok, nmX16, rfl, by decide⟩
set_option maxRecDepth 100000 in
theorem fdX16_24 : xFd RX16 24 16 15 (.object "java/util/ArrayList") true := ⟨_, _, _, by decide, rfl, by decide, in_X16, q2049, rfl, tyX16_ok, nmX16, rfl, by decide⟩
set_option maxRecDepth 100000 in
theorem owX16_init_15 : xOwn YX16_init 16 15 := ⟨rfl, _, _, rfl, rfl⟩
set_option maxRecDepth 100000 in
theorem fdX16_27 : xFd RX16 27 16 0 (.object "java/lang/String") true := ⟨_, _, _, by decide, rfl, by decide, in_X16, q2023, rfl, tyX16_ok, nmX16, rfl, by decide⟩
set_option maxRecDepth 100000 in
theorem owX16_init_0 : xOwn YX16_init 16 0 := ⟨rfl, _, _, rfl, rfl⟩
set_option maxRecDepth 100000 in
theorem fdX16_31 : xFd RX16 31 16 1 (.boolean) true := ⟨_, _, _, by decide, rfl, by decide, in_X16, q2024, rfl, tyX16_ok, nmX16, rfl, by decide⟩
set_option maxRecDepth 100000 in
theorem owX16_init_1 : xOwn YX16_init 16 1 := ⟨rfl, _, _, rfl, rfl⟩
set_option maxRecDepth 100000 in
theorem fdX16_35 : xFd RX16 35 16 2 (.int) true := ⟨_, _, _, by decide, rfl, by decide, in_X16, q2027, rfl, tyX16_ok, nmX16, rfl, by decide⟩
set_option maxRecDepth 100000 in
theorem owX16_init_2 : xOwn YX16_init 16 2 := ⟨rfl, _, _, rfl, rfl⟩
set_option maxRecDepth 100000 in
theorem fdX16_38 : xFd RX16 38 16 4 (.object "PascalHouse$Type") false := ⟨_, _, _, by decide, rfl, by decide, in_X16, q2033, rfl, tyX16_ok, nmX16, rfl, by decide⟩
set_option maxRecDepth 100000 in
theorem gfX16_52 : xFn RX16 52 21 0 (.int) true := ⟨_, _, _, _, by decide, rfl, by decide, in_X21, List.mem_filter.mpr ⟨q2462, rfl⟩, rfl, tyX21_ok, nmX21, rfl, by decide⟩
set_option maxRecDepth 100000 in
theorem gfX16_55 : xFn RX16 55 21 1 (.object "PascalHouse$Type") true := ⟨_, _, _, _, by decide, rfl, by decide, in_X21, List.mem_filter.mpr ⟨q2466, rfl⟩, rfl, tyX21_ok, nmX21, rfl, by decide⟩
set_option maxRecDepth 100000 in
theorem gfX16_58 : xFn RX16 58 21 2 (.object "PascalHouse$Routine") true := ⟨_, _, _, _, by decide, rfl, by decide, in_X21, List.mem_filter.mpr ⟨q2470, rfl⟩, rfl, tyX21_ok, nmX21, rfl, by decide⟩
set_option maxRecDepth 100000 in
theorem pnX16 : plainName RX16 = true := by decide +kernel
set_option maxRecDepth 100000 in
theorem mhX16 : RX16 ≠ "java/lang/invoke/MethodHandle" ∧ RX16 ≠ "java/lang/invoke/VarHandle" := by decide +kernel
set_option maxRecDepth 100000 in
theorem pd100 : (parseMethodDescriptor "(LPascalHouse$Routine;)Z").map (fun s => s.parameters.length) = some 1 := by decide +kernel
set_option maxRecDepth 100000 in
theorem mvX16_isLike : xMv YX16_isLike 16 1 := ⟨_, _, _, by decide, rfl, ⟨q2621, plainFor_of_name pnX16, mhX16, pd100⟩, q2619, q2620⟩
set_option maxRecDepth 100000 in
theorem anX0_19 : xAd RX0 19 6 := ⟨_, by decide, rfl, q440, by simp [xao]⟩
set_option maxRecDepth 100000 in
theorem srX0_21 : ∃ t, xstrs[0]? = some (RX0, 21, t, 0) := ⟨_, rfl⟩
set_option maxRecDepth 100000 in
theorem as_6_30 : xas 6 30 := ⟨_, _, _, _, by decide, rfl, by decide, rfl, Or.inl rfl⟩
set_option maxRecDepth 100000 in
theorem srX0_23 : ∃ t, xstrs[1]? = some (RX0, 23, t, 1) := ⟨_, rfl⟩
set_option maxRecDepth 100000 in
theorem srX0_25 : ∃ t, xstrs[2]? = some (RX0, 25, t, 2) := ⟨_, rfl⟩
set_option maxRecDepth 100000 in
theorem srX0_27 : ∃ t, xstrs[3]? = some (RX0, 27, t, 3) := ⟨_, rfl⟩
set_option maxRecDepth 100000 in
theorem srX0_29 : ∃ t, xstrs[4]? = some (RX0, 29, t, 4) := ⟨_, rfl⟩
set_option maxRecDepth 100000 in
theorem srX0_31 : ∃ t, xstrs[5]? = some (RX0, 31, t, 5) := ⟨_, rfl⟩
set_option maxRecDepth 100000 in
theorem srX0_33 : ∃ t, xstrs[6]? = some (RX0, 33, t, 6) := ⟨_, rfl⟩
set_option maxRecDepth 100000 in
theorem srX0_35 : ∃ t, xstrs[7]? = some (RX0, 35, t, 7) := ⟨_, rfl⟩
set_option maxRecDepth 100000 in
theorem srX0_37 : ∃ t, xstrs[8]? = some (RX0, 37, t, 8) := ⟨_, rfl⟩
set_option maxRecDepth 100000 in
theorem srX0_39 : ∃ t, xstrs[9]? = some (RX0, 39, t, 9) := ⟨_, rfl⟩
set_option maxRecDepth 100000 in
theorem srX0_41 : ∃ t, xstrs[10]? = some (RX0, 41, t, 10) := ⟨_, rfl⟩
set_option maxRecDepth 100000 in
theorem srX0_43 : ∃ t, xstrs[11]? = some (RX0, 43, t, 11) := ⟨_, rfl⟩
set_option maxRecDepth 100000 in
theorem srX0_45 : ∃ t, xstrs[12]? = some (RX0, 45, t, 12) := ⟨_, rfl⟩
set_option maxRecDepth 100000 in
theorem srX0_47 : ∃ t, xstrs[13]? = some (RX0, 47, t, 13) := ⟨_, rfl⟩
set_option maxRecDepth 100000 in
theorem srX0_49 : ∃ t, xstrs[14]? = some (RX0, 49, t, 14) := ⟨_, rfl⟩
set_option maxRecDepth 100000 in
theorem srX0_51 : ∃ t, xstrs[15]? = some (RX0, 51, t, 15) := ⟨_, rfl⟩
set_option maxRecDepth 100000 in
theorem srX0_53 : ∃ t, xstrs[16]? = some (RX0, 53, t, 16) := ⟨_, rfl⟩
set_option maxRecDepth 100000 in
theorem srX0_55 : ∃ t, xstrs[17]? = some (RX0, 55, t, 17) := ⟨_, rfl⟩
set_option maxRecDepth 100000 in
theorem srX0_57 : ∃ t, xstrs[18]? = some (RX0, 57, t, 18) := ⟨_, rfl⟩
set_option maxRecDepth 100000 in
theorem srX0_59 : ∃ t, xstrs[19]? = some (RX0, 59, t, 19) := ⟨_, rfl⟩
set_option maxRecDepth 100000 in
theorem srX0_61 : ∃ t, xstrs[20]? = some (RX0, 61, t, 20) := ⟨_, rfl⟩
set_option maxRecDepth 100000 in
theorem srX0_63 : ∃ t, xstrs[21]? = some (RX0, 63, t, 21) := ⟨_, rfl⟩
set_option maxRecDepth 100000 in
theorem srX0_65 : ∃ t, xstrs[22]? = some (RX0, 65, t, 22) := ⟨_, rfl⟩
set_option maxRecDepth 100000 in
theorem srX0_67 : ∃ t, xstrs[23]? = some (RX0, 67, t, 23) := ⟨_, rfl⟩
set_option maxRecDepth 100000 in
theorem srX0_69 : ∃ t, xstrs[24]? = some (RX0, 69, t, 24) := ⟨_, rfl⟩
set_option maxRecDepth 100000 in
theorem srX0_71 : ∃ t, xstrs[25]? = some (RX0, 71, t, 25) := ⟨_, rfl⟩
set_option maxRecDepth 100000 in
theorem srX0_73 : ∃ t, xstrs[26]? = some (RX0, 73, t, 26) := ⟨_, rfl⟩
set_option maxRecDepth 100000 in
theorem srX0_75 : ∃ t, xstrs[27]? = some (RX0, 75, t, 27) := ⟨_, rfl⟩
set_option maxRecDepth 100000 in
theorem srX0_77 : ∃ t, xstrs[28]? = some (RX0, 77, t, 28) := ⟨_, rfl⟩
set_option maxRecDepth 100000 in
theorem srX0_79 : ∃ t, xstrs[29]? = some (RX0, 79, t, 29) := ⟨_, rfl⟩
set_option maxRecDepth 100000 in
theorem srX0_81 : ∃ t, xstrs[30]? = some (RX0, 81, t, 30) := ⟨_, rfl⟩
set_option maxRecDepth 100000 in
theorem srX0_83 : ∃ t, xstrs[31]? = some (RX0, 83, t, 31) := ⟨_, rfl⟩
set_option maxRecDepth 100000 in
theorem srX0_85 : ∃ t, xstrs[32]? = some (RX0, 85, t, 32) := ⟨_, rfl⟩
set_option maxRecDepth 100000 in
theorem srX0_87 : ∃ t, xstrs[33]? = some (RX0, 87, t, 33) := ⟨_, rfl⟩
set_option maxRecDepth 100000 in
theorem srX0_89 : ∃ t, xstrs[34]? = some (RX0, 89, t, 34) := ⟨_, rfl⟩
set_option maxRecDepth 100000 in
theorem fdX0_91 : xFd RX0 91 0 0 (.array (.object "java/lang/String")) true := ⟨_, _, _, by decide, rfl, by decide, in_X0, q1402, rfl, tyX0_ok, nmX0, rfl, by decide⟩
set_option maxRecDepth 100000 in
theorem owX0_init_0 : xOwn YX0_init 0 0 := ⟨rfl, _, _, rfl, rfl⟩
set_option maxRecDepth 100000 in
theorem fdX0_95 : xFd RX0 95 0 1 (.array .byte) true := ⟨_, _, _, by decide, rfl, by decide, in_X0, q1403, rfl, tyX0_ok, nmX0, rfl, by decide⟩
set_option maxRecDepth 100000 in
theorem owX0_init_1 : xOwn YX0_init 0 1 := ⟨rfl, _, _, rfl, rfl⟩
set_option maxRecDepth 100000 in
theorem fdX0_99 : xFd RX0 99 0 2 (.array .byte) true := ⟨_, _, _, by decide, rfl, by decide, in_X0, q1404, rfl, tyX0_ok, nmX0, rfl, by decide⟩
set_option maxRecDepth 100000 in
theorem owX0_init_2 : xOwn YX0_init 0 2 := ⟨rfl, _, _, rfl, rfl⟩
set_option maxRecDepth 100000 in
theorem fdX0_102 : xFd RX0 102 0 5 (.array .byte) true := ⟨_, _, _, by decide, rfl, by decide, in_X0, q1407, rfl, tyX0_ok, nmX0, rfl, by decide⟩
set_option maxRecDepth 100000 in
theorem owX0_init_5 : xOwn YX0_init 0 5 := ⟨rfl, _, _, rfl, rfl⟩
set_option maxRecDepth 100000 in
theorem fdX0_105 : xFd RX0 105 0 6 (.array .int) true := ⟨_, _, _, by decide, rfl, by decide, in_X0, q1408, rfl, tyX0_ok, nmX0, rfl, by decide⟩
set_option maxRecDepth 100000 in
theorem owX0_init_6 : xOwn YX0_init 0 6 := ⟨rfl, _, _, rfl, rfl⟩
set_option maxRecDepth 100000 in
theorem cdX0_109 : xCd RX0 109 1 2 := ⟨_, _, _, by decide, rfl, in_X1, tyX1_ok, q477, q478, q378⟩
set_option maxRecDepth 100000 in
theorem miX1_init : xMi YX1_init 0 := ⟨⟨q481, plainFor_of_name pnX1, mhX1, pd1⟩, q480, rfl, rfl, rfl⟩
set_option maxRecDepth 100000 in
theorem fdX0_112 : xFd RX0 112 0 7 (.object "PascalHouse$Faults") true := ⟨_, _, _, by decide, rfl, by decide, in_X0, q1409, rfl, tyX0_ok, nmX0, rfl, by decide⟩
set_option maxRecDepth 100000 in
theorem owX0_init_7 : xOwn YX0_init 0 7 := ⟨rfl, _, _, rfl, rfl⟩
set_option maxRecDepth 100000 in
theorem cdX0_116 : xCd RX0 116 2 17 := ⟨_, _, _, by decide, rfl, in_X2, tyX2_ok, q494, q495, q379⟩
set_option maxRecDepth 100000 in
theorem miX2_init : xMi YX2_init 0 := ⟨⟨q498, plainFor_of_name pnX2, mhX2, pd1⟩, q497, rfl, rfl, rfl⟩
set_option maxRecDepth 100000 in
theorem fdX0_119 : xFd RX0 119 0 8 (.object "PascalHouse$Code") true := ⟨_, _, _, by decide, rfl, by decide, in_X0, q1410, rfl, tyX0_ok, nmX0, rfl, by decide⟩
set_option maxRecDepth 100000 in
theorem owX0_init_8 : xOwn YX0_init 0 8 := ⟨rfl, _, _, rfl, rfl⟩
set_option maxRecDepth 100000 in
theorem cdX0_123 : xCd RX0 123 3 5 := ⟨_, _, _, by decide, rfl, in_X3, tyX3_ok, q601, q602, q383⟩
set_option maxRecDepth 100000 in
theorem cdX0_125 : xCd RX0 125 4 6 := ⟨_, _, _, by decide, rfl, in_X4, tyX4_ok, q603, q604, q384⟩
set_option maxRecDepth 100000 in
theorem pd101 : (parseMethodDescriptor "([B[Ljava/lang/String;LPascalHouse$Faults;)V").map (fun s => s.parameters.length) = some 3 := by decide +kernel
set_option maxRecDepth 100000 in
theorem miX4_init : xMi YX4_init 3 := ⟨⟨q607, plainFor_of_name pnX4, mhX4, pd101⟩, q606, rfl, rfl, rfl⟩
set_option maxRecDepth 100000 in
theorem pd102 : (parseMethodDescriptor "(LPascalHouse$Scanner;LPascalHouse$Faults;)V").map (fun s => s.parameters.length) = some 2 := by decide +kernel
set_option maxRecDepth 100000 in
theorem miX3_init : xMi YX3_init 2 := ⟨⟨q662, plainFor_of_name pnX3, mhX3, pd102⟩, q661, rfl, rfl, rfl⟩
set_option maxRecDepth 100000 in
theorem fdX0_133 : xFd RX0 133 0 9 (.object "PascalHouse$Parser") true := ⟨_, _, _, by decide, rfl, by decide, in_X0, q1411, rfl, tyX0_ok, nmX0, rfl, by decide⟩
set_option maxRecDepth 100000 in
theorem owX0_init_9 : xOwn YX0_init 0 9 := ⟨rfl, _, _, rfl, rfl⟩
set_option maxRecDepth 100000 in
theorem cdX0_137 : xCd RX0 137 5 29 := ⟨_, _, _, by decide, rfl, in_X5, tyX5_ok, q681, q682, q389⟩
set_option maxRecDepth 100000 in
theorem pnX5 : plainName RX5 = true := by decide +kernel
set_option maxRecDepth 100000 in
theorem mhX5 : RX5 ≠ "java/lang/invoke/MethodHandle" ∧ RX5 ≠ "java/lang/invoke/VarHandle" := by decide +kernel
set_option maxRecDepth 100000 in
theorem pd103 : (parseMethodDescriptor "(LPascalHouse$Faults;LPascalHouse$Code;)V").map (fun s => s.parameters.length) = some 2 := by decide +kernel
set_option maxRecDepth 100000 in
theorem miX5_init : xMi YX5_init 2 := ⟨⟨q685, plainFor_of_name pnX5, mhX5, pd103⟩, q684, rfl, rfl, rfl⟩
set_option maxRecDepth 100000 in
theorem fdX0_142 : xFd RX0 142 0 10 (.object "PascalHouse$Compiler") true := ⟨_, _, _, by decide, rfl, by decide, in_X0, q1412, rfl, tyX0_ok, nmX0, rfl, by decide⟩
set_option maxRecDepth 100000 in
theorem owX0_init_10 : xOwn YX0_init 0 10 := ⟨rfl, _, _, rfl, rfl⟩
set_option maxRecDepth 100000 in
theorem cdX0_146 : xCd RX0 146 9 31 := ⟨_, _, _, by decide, rfl, in_X9, tyX9_ok, q1196, q1197, q399⟩
set_option maxRecDepth 100000 in
theorem pnX9 : plainName RX9 = true := by decide +kernel
set_option maxRecDepth 100000 in
theorem mhX9 : RX9 ≠ "java/lang/invoke/MethodHandle" ∧ RX9 ≠ "java/lang/invoke/VarHandle" := by decide +kernel
set_option maxRecDepth 100000 in
theorem pd104 : (parseMethodDescriptor "(LPascalHouse$Code;)V").map (fun s => s.parameters.length) = some 1 := by decide +kernel
set_option maxRecDepth 100000 in
theorem miX9_init : xMi YX9_init 1 := ⟨⟨q1200, plainFor_of_name pnX9, mhX9, pd104⟩, q1199, rfl, rfl, rfl⟩
set_option maxRecDepth 100000 in
theorem fdX0_151 : xFd RX0 151 0 11 (.object "PascalHouse$Machine") true := ⟨_, _, _, by decide, rfl, by decide, in_X0, q1413, rfl, tyX0_ok, nmX0, rfl, by decide⟩
set_option maxRecDepth 100000 in
theorem owX0_init_11 : xOwn YX0_init 0 11 := ⟨rfl, _, _, rfl, rfl⟩
set_option maxRecDepth 100000 in
theorem fdX0_155 : xFd RX0 155 0 13 (.array .int) true := ⟨_, _, _, by decide, rfl, by decide, in_X0, q1415, rfl, tyX0_ok, nmX0, rfl, by decide⟩
set_option maxRecDepth 100000 in
theorem owX0_init_13 : xOwn YX0_init 0 13 := ⟨rfl, _, _, rfl, rfl⟩
set_option maxRecDepth 100000 in
theorem fdX0_158 : xFd RX0 158 0 16 (.int) false := ⟨_, _, _, by decide, rfl, by decide, in_X0, q1418, rfl, tyX0_ok, nmX0, rfl, by decide⟩
set_option maxRecDepth 100000 in
theorem fdX0_162 : xFd RX0 162 0 17 (.int) false := ⟨_, _, _, by decide, rfl, by decide, in_X0, q1419, rfl, tyX0_ok, nmX0, rfl, by decide⟩
set_option maxRecDepth 100000 in
theorem fdX0_165 : xFd RX0 165 0 19 (.array .byte) true := ⟨_, _, _, by decide, rfl, by decide, in_X0, q1421, rfl, tyX0_ok, nmX0, rfl, by decide⟩
set_option maxRecDepth 100000 in
theorem owX0_init_19 : xOwn YX0_init 0 19 := ⟨rfl, _, _, rfl, rfl⟩
set_option maxRecDepth 100000 in
theorem fdX0_168 : xFd RX0 168 0 20 (.array .int) true := ⟨_, _, _, by decide, rfl, by decide, in_X0, q1422, rfl, tyX0_ok, nmX0, rfl, by decide⟩
set_option maxRecDepth 100000 in
theorem owX0_init_20 : xOwn YX0_init 0 20 := ⟨rfl, _, _, rfl, rfl⟩
set_option maxRecDepth 100000 in
theorem gfX0_171 : xFn RX0 171 1 1 (.int) false := ⟨_, _, _, _, by decide, rfl, by decide, in_X1, List.mem_filter.mpr ⟨q486, rfl⟩, rfl, tyX1_ok, nmX1, rfl, by decide⟩
set_option maxRecDepth 100000 in
theorem fdX0_174 : xFd RX0 174 0 3 (.int) false := ⟨_, _, _, by decide, rfl, by decide, in_X0, q1405, rfl, tyX0_ok, nmX0, rfl, by decide⟩
set_option maxRecDepth 100000 in
theorem pnX0 : plainName RX0 = true := by decide +kernel
set_option maxRecDepth 100000 in
theorem mhX0 : RX0 ≠ "java/lang/invoke/MethodHandle" ∧ RX0 ≠ "java/lang/invoke/VarHandle" := by decide +kernel
set_option maxRecDepth 100000 in
theorem mvX0_four : xMv YX0_four 0 1 := ⟨_, _, _, by decide, rfl, ⟨q1473, plainFor_of_name pnX0, mhX0, pd0⟩, q1472, qs6⟩
set_option maxRecDepth 100000 in
theorem fdX0_181 : xFd RX0 181 0 4 (.int) false := ⟨_, _, _, by decide, rfl, by decide, in_X0, q1406, rfl, tyX0_ok, nmX0, rfl, by decide⟩
set_option maxRecDepth 100000 in
theorem fdX0_184 : xFd RX0 184 0 12 (.object "PascalHouse$Routine") false := ⟨_, _, _, by decide, rfl, by decide, in_X0, q1414, rfl, tyX0_ok, nmX0, rfl, by decide⟩
set_option maxRecDepth 100000 in
theorem fdX0_188 : xFd RX0 188 0 18 (.boolean) false := ⟨_, _, _, by decide, rfl, by decide, in_X0, q1420, rfl, tyX0_ok, nmX0, rfl, by decide⟩
set_option maxRecDepth 100000 in
theorem gfX0_192 : xFn RX0 192 1 0 (.int) false := ⟨_, _, _, _, by decide, rfl, by decide, in_X1, List.mem_filter.mpr ⟨q484, rfl⟩, rfl, tyX1_ok, nmX1, rfl, by decide⟩
set_option maxRecDepth 100000 in
theorem mvX2_clear : xMv YX2_clear 2 0 := ⟨_, _, _, by decide, rfl, ⟨q1486, plainFor_of_name pnX2, mhX2, pd1⟩, q1484, q1485⟩
set_option maxRecDepth 100000 in
theorem mvX0_read : xMv YX0_read 0 1 := ⟨_, _, _, by decide, rfl, ⟨q1494, plainFor_of_name pnX0, mhX0, pd0⟩, q1493, qs7⟩
set_option maxRecDepth 100000 in
theorem pd105 : (parseMethodDescriptor "(I)LPascalHouse$Tree;").map (fun s => s.parameters.length) = some 1 := by decide +kernel
set_option maxRecDepth 100000 in
theorem mvX3_program : xMv YX3_program 3 1 := ⟨_, _, _, by decide, rfl, ⟨q1563, plainFor_of_name pnX3, mhX3, pd105⟩, q1561, q1562⟩
set_option maxRecDepth 100000 in
theorem gfX0_210 : xFn RX0 210 3 3 (.int) false := ⟨_, _, _, _, by decide, rfl, by decide, in_X3, List.mem_filter.mpr ⟨q668, rfl⟩, rfl, tyX3_ok, nmX3, rfl, by decide⟩
set_option maxRecDepth 100000 in
theorem fdX0_213 : xFd RX0 213 0 15 (.int) false := ⟨_, _, _, by decide, rfl, by decide, in_X0, q1417, rfl, tyX0_ok, nmX0, rfl, by decide⟩
set_option maxRecDepth 100000 in
theorem pd106 : (parseMethodDescriptor "(LPascalHouse$Tree;)LPascalHouse$Routine;").map (fun s => s.parameters.length) = some 1 := by decide +kernel
set_option maxRecDepth 100000 in
theorem mvX5_program : xMv YX5_program 5 1 := ⟨_, _, _, by decide, rfl, ⟨q2006, plainFor_of_name pnX5, mhX5, pd106⟩, q2005, qs63⟩
set_option maxRecDepth 100000 in
theorem fdX0_217 : xFd RX0 217 0 14 (.int) false := ⟨_, _, _, by decide, rfl, by decide, in_X0, q1416, rfl, tyX0_ok, nmX0, rfl, by decide⟩
set_option maxRecDepth 100000 in
theorem gfX0_220 : xFn RX0 220 15 2 (.object "PascalHouse$Tree") false := ⟨_, _, _, _, by decide, rfl, by decide, in_X15, List.mem_filter.mpr ⟨q1760, rfl⟩, rfl, tyX15_ok, nmX15, rfl, by decide⟩
set_option maxRecDepth 100000 in
theorem gfX0_226 : xFn RX0 226 16 5 (.object "PascalHouse$Scope") false := ⟨_, _, _, _, by decide, rfl, by decide, in_X16, List.mem_filter.mpr ⟨q2035, rfl⟩, rfl, tyX16_ok, nmX16, rfl, by decide⟩
set_option maxRecDepth 100000 in
theorem pd107 : (parseMethodDescriptor "()Ljava/lang/String;").map (fun s => s.parameters.length) = some 0 := by decide +kernel
set_option maxRecDepth 100000 in
theorem mvX15_text : xMv YX15_text 15 0 := ⟨_, _, _, by decide, rfl, ⟨q2012, plainFor_of_name pnX15, mhX15, pd107⟩, q2010, q2011⟩
set_option maxRecDepth 100000 in
theorem pnX7 : plainName RX7 = true := by decide +kernel
set_option maxRecDepth 100000 in
theorem mhX7 : RX7 ≠ "java/lang/invoke/MethodHandle" ∧ RX7 ≠ "java/lang/invoke/VarHandle" := by decide +kernel
set_option maxRecDepth 100000 in
theorem pd108 : (parseMethodDescriptor "(Ljava/lang/String;)LPascalHouse$Item;").map (fun s => s.parameters.length) = some 1 := by decide +kernel
set_option maxRecDepth 100000 in
theorem mvX7_own : xMv YX7_own 7 1 := ⟨_, _, _, by decide, rfl, ⟨q2110, plainFor_of_name pnX7, mhX7, pd108⟩, q2108, q2109⟩
set_option maxRecDepth 100000 in
theorem gfX0_242 : xFn RX0 242 8 5 (.int) false := ⟨_, _, _, _, by decide, rfl, by decide, in_X8, List.mem_filter.mpr ⟨q976, rfl⟩, rfl, tyX8_ok, nmX8, rfl, by decide⟩
set_option maxRecDepth 100000 in
theorem gfX0_247 : xFn RX0 247 5 25 (.object "PascalHouse$Item") false := ⟨_, _, _, _, by decide, rfl, by decide, in_X5, List.mem_filter.mpr ⟨q1131, rfl⟩, rfl, tyX5_ok, nmX5, rfl, by decide⟩
set_option maxRecDepth 100000 in
theorem gfX0_250 : xFn RX0 250 5 26 (.object "PascalHouse$Item") false := ⟨_, _, _, _, by decide, rfl, by decide, in_X5, List.mem_filter.mpr ⟨q1133, rfl⟩, rfl, tyX5_ok, nmX5, rfl, by decide⟩
set_option maxRecDepth 100000 in
theorem gfX0_253 : xFn RX0 253 15 4 (.object "PascalHouse$Tree") false := ⟨_, _, _, _, by decide, rfl, by decide, in_X15, List.mem_filter.mpr ⟨q1765, rfl⟩, rfl, tyX15_ok, nmX15, rfl, by decide⟩
set_option maxRecDepth 100000 in
theorem msX0_power : xMs YX0_power 1 := ⟨⟨q1673, plainFor_of_name pnX0, mhX0, pd38⟩, q1672, q377⟩
set_option maxRecDepth 100000 in
theorem msX0_held : xMs YX0_held 1 := ⟨⟨q2822, plainFor_of_name pnX0, mhX0, pd7⟩, q2821, q377⟩
set_option maxRecDepth 100000 in
theorem pd109 : (parseMethodDescriptor "(LPascalHouse$Routine;I)V").map (fun s => s.parameters.length) = some 2 := by decide +kernel
set_option maxRecDepth 100000 in
theorem mvX9_begin : xMv YX9_begin 9 2 := ⟨_, _, _, by decide, rfl, ⟨q2826, plainFor_of_name pnX9, mhX9, pd109⟩, q2824, q2825⟩
set_option maxRecDepth 100000 in
theorem gfX0_263 : xFn RX0 263 9 22 (.int) false := ⟨_, _, _, _, by decide, rfl, by decide, in_X9, List.mem_filter.mpr ⟨q1326, rfl⟩, rfl, tyX9_ok, nmX9, rfl, by decide⟩
set_option maxRecDepth 100000 in
theorem mvX9_go : xMv YX9_go 9 0 := ⟨_, _, _, by decide, rfl, ⟨q2886, plainFor_of_name pnX9, mhX9, pd1⟩, q2884, q2885⟩
set_option maxRecDepth 100000 in
theorem mvX0_opens : xMv YX0_opens 0 1 := ⟨_, _, _, by decide, rfl, ⟨q2858, plainFor_of_name pnX0, mhX0, pd0⟩, q2857, qs147⟩
set_option maxRecDepth 100000 in
theorem mvX0_keeps : xMv YX0_keeps 0 1 := ⟨_, _, _, by decide, rfl, ⟨q3180, plainFor_of_name pnX0, mhX0, pd0⟩, q3179, qs196⟩
set_option maxRecDepth 100000 in
theorem gfX0_275 : xFn RX0 275 9 2 (.object "PascalHouse$FileRows") true := ⟨_, _, _, _, by decide, rfl, by decide, in_X9, List.mem_filter.mpr ⟨q1303, rfl⟩, rfl, tyX9_ok, nmX9, rfl, by decide⟩
set_option maxRecDepth 100000 in
theorem gfX0_284 : xFn RX0 284 11 8 (.array .boolean) true := ⟨_, _, _, _, by decide, rfl, by decide, in_X11, List.mem_filter.mpr ⟨q1253, rfl⟩, rfl, tyX11_ok, nmX11, rfl, by decide⟩
set_option maxRecDepth 100000 in
theorem mvX11_reset : xMv YX11_reset 11 2 := ⟨_, _, _, by decide, rfl, ⟨q2870, plainFor_of_name pnX11, mhX11, pd8⟩, q2868, q2869⟩
set_option maxRecDepth 100000 in
theorem mvX11_empty : xMv YX11_empty 11 1 := ⟨_, _, _, by decide, rfl, ⟨q2882, plainFor_of_name pnX11, mhX11, pd0⟩, q2880, q2881⟩
set_option maxRecDepth 100000 in
theorem gfX0_294 : xFn RX0 294 11 1 (.array .int) true := ⟨_, _, _, _, by decide, rfl, by decide, in_X11, List.mem_filter.mpr ⟨q1241, rfl⟩, rfl, tyX11_ok, nmX11, rfl, by decide⟩
set_option maxRecDepth 100000 in
theorem gfX0_297 : xFn RX0 297 11 2 (.array .int) true := ⟨_, _, _, _, by decide, rfl, by decide, in_X11, List.mem_filter.mpr ⟨q1244, rfl⟩, rfl, tyX11_ok, nmX11, rfl, by decide⟩
set_option maxRecDepth 100000 in
theorem gfX0_299 : xFn RX0 299 11 10 (.array .long) true := ⟨_, _, _, _, by decide, rfl, by decide, in_X11, List.mem_filter.mpr ⟨q1258, rfl⟩, rfl, tyX11_ok, nmX11, rfl, by decide⟩
set_option maxRecDepth 100000 in
theorem gfX0_303 : xFn RX0 303 11 9 (.array .int) true := ⟨_, _, _, _, by decide, rfl, by decide, in_X11, List.mem_filter.mpr ⟨q1256, rfl⟩, rfl, tyX11_ok, nmX11, rfl, by decide⟩
set_option maxRecDepth 100000 in
theorem gfX0_305 : xFn RX0 305 9 23 (.int) false := ⟨_, _, _, _, by decide, rfl, by decide, in_X9, List.mem_filter.mpr ⟨q1328, rfl⟩, rfl, tyX9_ok, nmX9, rfl, by decide⟩
set_option maxRecDepth 100000 in
theorem gfX0_308 : xFn RX0 308 9 24 (.int) false := ⟨_, _, _, _, by decide, rfl, by decide, in_X9, List.mem_filter.mpr ⟨q1330, rfl⟩, rfl, tyX9_ok, nmX9, rfl, by decide⟩
set_option maxRecDepth 100000 in
theorem gfX0_311 : xFn RX0 311 2 10 (.object "java/util/ArrayList") true := ⟨_, _, _, _, by decide, rfl, by decide, in_X2, List.mem_filter.mpr ⟨q550, rfl⟩, rfl, tyX2_ok, nmX2, rfl, by decide⟩
set_option maxRecDepth 100000 in
theorem gfX0_320 : xFn RX0 320 9 26 (.int) false := ⟨_, _, _, _, by decide, rfl, by decide, in_X9, List.mem_filter.mpr ⟨q1333, rfl⟩, rfl, tyX9_ok, nmX9, rfl, by decide⟩
set_option maxRecDepth 100000 in
theorem gfX0_323 : xFn RX0 323 9 21 (.int) false := ⟨_, _, _, _, by decide, rfl, by decide, in_X9, List.mem_filter.mpr ⟨q1324, rfl⟩, rfl, tyX9_ok, nmX9, rfl, by decide⟩
set_option maxRecDepth 100000 in
theorem gfX0_326 : xFn RX0 326 9 27 (.int) false := ⟨_, _, _, _, by decide, rfl, by decide, in_X9, List.mem_filter.mpr ⟨q1335, rfl⟩, rfl, tyX9_ok, nmX9, rfl, by decide⟩
set_option maxRecDepth 100000 in
theorem gfX0_329 : xFn RX0 329 9 20 (.int) false := ⟨_, _, _, _, by decide, rfl, by decide, in_X9, List.mem_filter.mpr ⟨q1322, rfl⟩, rfl, tyX9_ok, nmX9, rfl, by decide⟩
set_option maxRecDepth 100000 in
theorem cdX17_9 : xCd RX17 9 28 3 := ⟨_, _, _, by decide, rfl, in_J2, tyJ2_ok, q2143, q501, q382⟩
set_option maxRecDepth 100000 in
theorem fdX17_14 : xFd RX17 14 17 3 (.object "java/util/ArrayList") true := ⟨_, _, _, by decide, rfl, by decide, in_X17, q2151, rfl, tyX17_ok, nmX17, rfl, by decide⟩
set_option maxRecDepth 100000 in
theorem owX17_init_3 : xOwn YX17_init 17 3 := ⟨rfl, _, _, rfl, rfl⟩
set_option maxRecDepth 100000 in
theorem fdX17_20 : xFd RX17 20 17 4 (.object "java/util/ArrayList") true := ⟨_, _, _, by decide, rfl, by decide, in_X17, q2153, rfl, tyX17_ok, nmX17, rfl, by decide⟩
set_option maxRecDepth 100000 in
theorem owX17_init_4 : xOwn YX17_init 17 4 := ⟨rfl, _, _, rfl, rfl⟩
set_option maxRecDepth 100000 in
theorem fdX17_23 : xFd RX17 23 17 5 (.array .int) true := ⟨_, _, _, by decide, rfl, by decide, in_X17, q2155, rfl, tyX17_ok, nmX17, rfl, by decide⟩
set_option maxRecDepth 100000 in
theorem owX17_init_5 : xOwn YX17_init 17 5 := ⟨rfl, _, _, rfl, rfl⟩
set_option maxRecDepth 100000 in
theorem fdX17_27 : xFd RX17 27 17 6 (.array .int) true := ⟨_, _, _, by decide, rfl, by decide, in_X17, q2157, rfl, tyX17_ok, nmX17, rfl, by decide⟩
set_option maxRecDepth 100000 in
theorem owX17_init_6 : xOwn YX17_init 17 6 := ⟨rfl, _, _, rfl, rfl⟩
set_option maxRecDepth 100000 in
theorem fdX17_30 : xFd RX17 30 17 10 (.int) false := ⟨_, _, _, by decide, rfl, by decide, in_X17, q2164, rfl, tyX17_ok, nmX17, rfl, by decide⟩
set_option maxRecDepth 100000 in
theorem fdX17_34 : xFd RX17 34 17 0 (.object "PascalHouse$Block") true := ⟨_, _, _, by decide, rfl, by decide, in_X17, q2145, rfl, tyX17_ok, nmX17, rfl, by decide⟩
set_option maxRecDepth 100000 in
theorem owX17_init_0 : xOwn YX17_init 17 0 := ⟨rfl, _, _, rfl, rfl⟩
set_option maxRecDepth 100000 in
theorem fdX17_38 : xFd RX17 38 17 1 (.object "PascalHouse$Routine") true := ⟨_, _, _, by decide, rfl, by decide, in_X17, q2147, rfl, tyX17_ok, nmX17, rfl, by decide⟩
set_option maxRecDepth 100000 in
theorem owX17_init_1 : xOwn YX17_init 17 1 := ⟨rfl, _, _, rfl, rfl⟩
set_option maxRecDepth 100000 in
theorem fdX17_42 : xFd RX17 42 17 2 (.object "PascalHouse$Scope") true := ⟨_, _, _, by decide, rfl, by decide, in_X17, q2149, rfl, tyX17_ok, nmX17, rfl, by decide⟩
set_option maxRecDepth 100000 in
theorem owX17_init_2 : xOwn YX17_init 17 2 := ⟨rfl, _, _, rfl, rfl⟩
set_option maxRecDepth 100000 in
theorem gfX17_56 : xFn RX17 56 18 0 (.int) true := ⟨_, _, _, _, by decide, rfl, by decide, in_X18, List.mem_filter.mpr ⟨q2210, rfl⟩, rfl, tyX18_ok, nmX18, rfl, by decide⟩
set_option maxRecDepth 100000 in
theorem cdX17_59 : xCd RX17 59 22 5 := ⟨_, _, _, by decide, rfl, in_X22, tyX22_ok, q2732, q2733, q419⟩
set_option maxRecDepth 100000 in
theorem fdX17_61 : xFd RX17 61 17 7 (.int) false := ⟨_, _, _, by decide, rfl, by decide, in_X17, q2159, rfl, tyX17_ok, nmX17, rfl, by decide⟩
set_option maxRecDepth 100000 in
theorem pnX17 : plainName RX17 = true := by decide +kernel
set_option maxRecDepth 100000 in
theorem mhX17 : RX17 ≠ "java/lang/invoke/MethodHandle" ∧ RX17 ≠ "java/lang/invoke/VarHandle" := by decide +kernel
set_option maxRecDepth 100000 in
theorem pd110 : (parseMethodDescriptor "([II)[I").map (fun s => s.parameters.length) = some 2 := by decide +kernel
set_option maxRecDepth 100000 in
theorem msX17_first : xMs YX17_first 2 := ⟨⟨q2736, plainFor_of_name pnX17, mhX17, pd110⟩, q2735, q414⟩
set_option maxRecDepth 100000 in
theorem fdX17_68 : xFd RX17 68 17 8 (.int) false := ⟨_, _, _, by decide, rfl, by decide, in_X17, q2161, rfl, tyX17_ok, nmX17, rfl, by decide⟩
set_option maxRecDepth 100000 in
theorem pnX22 : plainName RX22 = true := by decide +kernel
set_option maxRecDepth 100000 in
theorem mhX22 : RX22 ≠ "java/lang/invoke/MethodHandle" ∧ RX22 ≠ "java/lang/invoke/VarHandle" := by decide +kernel
set_option maxRecDepth 100000 in
theorem pd111 : (parseMethodDescriptor "(LPascalHouse$Label;IZ[I[I)V").map (fun s => s.parameters.length) = some 5 := by decide +kernel
set_option maxRecDepth 100000 in
theorem miX22_init : xMi YX22_init 5 := ⟨⟨q2739, plainFor_of_name pnX22, mhX22, pd111⟩, q2738, rfl, rfl, rfl⟩
set_option maxRecDepth 100000 in
theorem fdX6_9 : xFd RX6 9 6 7 (.int) false := ⟨_, _, _, by decide, rfl, by decide, in_X6, q709, rfl, tyX6_ok, nmX6, rfl, by decide⟩
set_option maxRecDepth 100000 in
theorem cdX6_15 : xCd RX6 15 28 3 := ⟨_, _, _, by decide, rfl, in_J2, tyJ2_ok, q693, q501, q382⟩
set_option maxRecDepth 100000 in
theorem fdX6_20 : xFd RX6 20 6 8 (.object "java/util/ArrayList") true := ⟨_, _, _, by decide, rfl, by decide, in_X6, q713, rfl, tyX6_ok, nmX6, rfl, by decide⟩
set_option maxRecDepth 100000 in
theorem owX6_init_8 : xOwn YX6_init 6 8 := ⟨rfl, _, _, rfl, rfl⟩
set_option maxRecDepth 100000 in
theorem fdX6_24 : xFd RX6 24 6 0 (.int) true := ⟨_, _, _, by decide, rfl, by decide, in_X6, q695, rfl, tyX6_ok, nmX6, rfl, by decide⟩
set_option maxRecDepth 100000 in
theorem owX6_init_0 : xOwn YX6_init 6 0 := ⟨rfl, _, _, rfl, rfl⟩
set_option maxRecDepth 100000 in
theorem fdX6_27 : xFd RX6 27 6 5 (.int) false := ⟨_, _, _, by decide, rfl, by decide, in_X6, q705, rfl, tyX6_ok, nmX6, rfl, by decide⟩
set_option maxRecDepth 100000 in
theorem fdX6_30 : xFd RX6 30 6 6 (.int) false := ⟨_, _, _, by decide, rfl, by decide, in_X6, q707, rfl, tyX6_ok, nmX6, rfl, by decide⟩
set_option maxRecDepth 100000 in
theorem fdX6_33 : xFd RX6 33 6 2 (.object "PascalHouse$Type") false := ⟨_, _, _, by decide, rfl, by decide, in_X6, q699, rfl, tyX6_ok, nmX6, rfl, by decide⟩
set_option maxRecDepth 100000 in
theorem gfX6_57 : xFn RX6 57 20 0 (.object "java/lang/String") true := ⟨_, _, _, _, by decide, rfl, by decide, in_X20, List.mem_filter.mpr ⟨q2372, rfl⟩, rfl, tyX20_ok, nmX20, rfl, by decide⟩
set_option maxRecDepth 100000 in
theorem pd112 : (parseMethodDescriptor "()LPascalHouse$Type;").map (fun s => s.parameters.length) = some 0 := by decide +kernel
set_option maxRecDepth 100000 in
theorem mvX6_own : xMv YX6_own 6 0 := ⟨_, _, _, by decide, rfl, ⟨q2265, plainFor_of_name pnX6, mhX6, pd112⟩, q2263, q2264⟩
set_option maxRecDepth 100000 in
theorem fdX6_37 : xFd RX6 37 6 1 (.object "PascalHouse$Type") false := ⟨_, _, _, by decide, rfl, by decide, in_X6, q697, rfl, tyX6_ok, nmX6, rfl, by decide⟩
set_option maxRecDepth 100000 in
theorem fdX6_67 : xFd RX6 67 6 4 (.object "PascalHouse$Type") false := ⟨_, _, _, by decide, rfl, by decide, in_X6, q704, rfl, tyX6_ok, nmX6, rfl, by decide⟩
set_option maxRecDepth 100000 in
theorem cdX6_10 : xCd RX6 10 6 9 := ⟨_, _, _, by decide, rfl, in_X6, tyX6_ok, q2546, q688, q390⟩
set_option maxRecDepth 100000 in
theorem miX6_init : xMi YX6_init 1 := ⟨⟨q691, plainFor_of_name pnX6, mhX6, pd0⟩, q690, rfl, rfl, rfl⟩
set_option maxRecDepth 100000 in
theorem pd113 : (parseMethodDescriptor "(LPascalHouse$Type;)LPascalHouse$Type;").map (fun s => s.parameters.length) = some 1 := by decide +kernel
set_option maxRecDepth 100000 in
theorem mvX6_of : xMv YX6_of 6 1 := ⟨_, _, _, by decide, rfl, ⟨q743, plainFor_of_name pnX6, mhX6, pd113⟩, q741, q742⟩
set_option maxRecDepth 100000 in
theorem pd114 : (parseMethodDescriptor "(LPascalHouse$Type;)Z").map (fun s => s.parameters.length) = some 1 := by decide +kernel
set_option maxRecDepth 100000 in
theorem mvX6_isLike : xMv YX6_isLike 6 1 := ⟨_, _, _, by decide, rfl, ⟨q2572, plainFor_of_name pnX6, mhX6, pd114⟩, q2570, q2571⟩
set_option maxRecDepth 100000 in
theorem mvX6_isPointer : xMv YX6_isPointer 6 0 := ⟨_, _, _, by decide, rfl, ⟨q2576, plainFor_of_name pnX6, mhX6, pd6⟩, q2574, q2575⟩
set_option maxRecDepth 100000 in
theorem mvX6_isOrdinal : xMv YX6_isOrdinal 6 0 := ⟨_, _, _, by decide, rfl, ⟨q2291, plainFor_of_name pnX6, mhX6, pd6⟩, q2289, q2290⟩
set_option maxRecDepth 100000 in
theorem mvX6_isSet : xMv YX6_isSet 6 0 := ⟨_, _, _, by decide, rfl, ⟨q2581, plainFor_of_name pnX6, mhX6, pd6⟩, q2579, q2580⟩
set_option maxRecDepth 100000 in
theorem mvX6_string : xMv YX6_string 6 0 := ⟨_, _, _, by decide, rfl, ⟨q2585, plainFor_of_name pnX6, mhX6, pd3⟩, q2583, q2584⟩
set_option maxRecDepth 100000 in
theorem fdX6_44 : xFd RX6 44 6 3 (.object "PascalHouse$Type") false := ⟨_, _, _, by decide, rfl, by decide, in_X6, q702, rfl, tyX6_ok, nmX6, rfl, by decide⟩
set_option maxRecDepth 100000 in
theorem fdX10_10 : xFd RX10 10 10 0 (.array .long) true := ⟨_, _, _, by decide, rfl, by decide, in_X10, q1209, rfl, tyX10_ok, nmX10, rfl, by decide⟩
set_option maxRecDepth 100000 in
theorem owX10_init_0 : xOwn YX10_init 10 0 := ⟨rfl, _, _, rfl, rfl⟩
set_option maxRecDepth 100000 in
theorem fdX10_16 : xFd RX10 16 10 1 (.array .long) true := ⟨_, _, _, by decide, rfl, by decide, in_X10, q1212, rfl, tyX10_ok, nmX10, rfl, by decide⟩
set_option maxRecDepth 100000 in
theorem owX10_init_1 : xOwn YX10_init 10 1 := ⟨rfl, _, _, rfl, rfl⟩
set_option maxRecDepth 100000 in
theorem fdX10_19 : xFd RX10 19 10 2 (.array .double) true := ⟨_, _, _, by decide, rfl, by decide, in_X10, q1215, rfl, tyX10_ok, nmX10, rfl, by decide⟩
set_option maxRecDepth 100000 in
theorem owX10_init_2 : xOwn YX10_init 10 2 := ⟨rfl, _, _, rfl, rfl⟩
set_option maxRecDepth 100000 in
theorem fdX10_23 : xFd RX10 23 10 3 (.array .boolean) true := ⟨_, _, _, by decide, rfl, by decide, in_X10, q1218, rfl, tyX10_ok, nmX10, rfl, by decide⟩
set_option maxRecDepth 100000 in
theorem owX10_init_3 : xOwn YX10_init 10 3 := ⟨rfl, _, _, rfl, rfl⟩
set_option maxRecDepth 100000 in
theorem msJ6_newBytesLength : xMs YJ6_newBytesLength 1 := ⟨⟨q625, plainFor_of_name pnJ6, mhJ6, pd7⟩, q624, q388⟩
set_option maxRecDepth 100000 in
theorem pd115 : (parseMethodDescriptor "(I[B)V").map (fun s => s.parameters.length) = some 2 := by decide +kernel
set_option maxRecDepth 100000 in
theorem msJ6_checkIndex : xMs YJ6_checkIndex 2 := ⟨⟨q813, plainFor_of_name pnJ6, mhJ6, pd115⟩, q812, q388⟩
set_option maxRecDepth 100000 in
theorem pd116 : (parseMethodDescriptor "([BI)C").map (fun s => s.parameters.length) = some 2 := by decide +kernel
set_option maxRecDepth 100000 in
theorem msJ6_getChar : xMs YJ6_getChar 2 := ⟨⟨q820, plainFor_of_name pnJ6, mhJ6, pd116⟩, q819, q388⟩
set_option maxRecDepth 100000 in
theorem pd117 : (parseMethodDescriptor "([B)I").map (fun s => s.parameters.length) = some 1 := by decide +kernel
set_option maxRecDepth 100000 in
theorem msJ6_length : xMs YJ6_length 1 := ⟨⟨q816, plainFor_of_name pnJ6, mhJ6, pd117⟩, q815, q388⟩
set_option maxRecDepth 100000 in
theorem msJ5_checkIndex : xMs YJ5_checkIndex 2 := ⟨⟨q802, plainFor_of_name pnJ5, mhJ5, pd8⟩, q801, q387⟩
set_option maxRecDepth 100000 in
theorem pd118 : (parseMethodDescriptor "(II[B)V").map (fun s => s.parameters.length) = some 3 := by decide +kernel
set_option maxRecDepth 100000 in
theorem msJ6_checkBoundsOffCount : xMs YJ6_checkBoundsOffCount 3 := ⟨⟨q889, plainFor_of_name pnJ6, mhJ6, pd118⟩, q888, q388⟩
set_option maxRecDepth 100000 in
theorem msJ6_putChar : xMs YJ6_putChar 3 := ⟨⟨q898, plainFor_of_name pnJ6, mhJ6, pd26⟩, q897, q388⟩
set_option maxRecDepth 100000 in
theorem msJ5_checkBoundsOffCount : xMs YJ5_checkBoundsOffCount 3 := ⟨⟨q892, plainFor_of_name pnJ5, mhJ5, pd28⟩, q891, q387⟩
set_option maxRecDepth 100000 in
theorem pd119 : (parseMethodDescriptor "([BI[BII)I").map (fun s => s.parameters.length) = some 5 := by decide +kernel
set_option maxRecDepth 100000 in
theorem msJ6_compress_2 : xMs YJ6_compress_2 5 := ⟨⟨q945, plainFor_of_name pnJ6, mhJ6, pd119⟩, q944, q388⟩
set_option maxRecDepth 100000 in
theorem msJ11_copyOfRange : xMs YJ11_copyOfRange 3 := ⟨⟨q933, plainFor_of_name pnJ11, mhJ11, pd98⟩, q932, q396⟩
set_option maxRecDepth 100000 in
theorem pd120 : (parseMethodDescriptor "([BIIB)V").map (fun s => s.parameters.length) = some 4 := by decide +kernel
set_option maxRecDepth 100000 in
theorem msJ11_fill : xMs YJ11_fill 4 := ⟨⟨q1086, plainFor_of_name pnJ11, mhJ11, pd120⟩, q1085, q396⟩
set_option maxRecDepth 100000 in
theorem msJ9_hugeLength : xMs YJ9_hugeLength 2 := ⟨⟨q851, plainFor_of_name pnJ9, mhJ9, pd31⟩, q850, q394⟩
set_option maxRecDepth 100000 in
theorem pnJ18 : plainName RJ18 = true := by decide +kernel
set_option maxRecDepth 100000 in
theorem mhJ18 : RJ18 ≠ "java/lang/invoke/MethodHandle" ∧ RJ18 ≠ "java/lang/invoke/VarHandle" := by decide +kernel
set_option maxRecDepth 100000 in
theorem msJ18_compute : xMs YJ18_compute 1 := ⟨⟨q3038, plainFor_of_name pnJ18, mhJ18, pd80⟩, q3037, q426⟩
set_option maxRecDepth 100000 in
theorem pnJ0 : plainName RJ0 = true := by decide +kernel
set_option maxRecDepth 100000 in
theorem mhJ0 : RJ0 ≠ "java/lang/invoke/MethodHandle" ∧ RJ0 ≠ "java/lang/invoke/VarHandle" := by decide +kernel
set_option maxRecDepth 100000 in
theorem miJ0_init : xMi YJ0_init 0 := ⟨⟨q510, plainFor_of_name pnJ0, mhJ0, pd1⟩, q509, rfl, rfl, rfl⟩
set_option maxRecDepth 100000 in
theorem fdJ1_7 : xFd RJ1 7 28 0 (.int) false := ⟨_, _, _, by decide, rfl, by decide, in_J2, q518, rfl, tyJ2_ok, nmJ2, rfl, by decide⟩
set_option maxRecDepth 100000 in
theorem cdX24_7 : xCd RX24 7 28 3 := ⟨_, _, _, by decide, rfl, in_J2, tyJ2_ok, q4078, q501, q382⟩
set_option maxRecDepth 100000 in
theorem fdX24_10 : xFd RX24 10 24 0 (.object "java/util/ArrayList") true := ⟨_, _, _, by decide, rfl, by decide, in_X24, q4080, rfl, tyX24_ok, nmX24, rfl, by decide⟩
set_option maxRecDepth 100000 in
theorem owX24_init_0 : xOwn YX24_init 24 0 := ⟨rfl, _, _, rfl, rfl⟩
set_option maxRecDepth 100000 in
theorem fdX24_16 : xFd RX24 16 24 1 (.object "java/util/ArrayList") true := ⟨_, _, _, by decide, rfl, by decide, in_X24, q4082, rfl, tyX24_ok, nmX24, rfl, by decide⟩
set_option maxRecDepth 100000 in
theorem owX24_init_1 : xOwn YX24_init 24 1 := ⟨rfl, _, _, rfl, rfl⟩
set_option maxRecDepth 100000 in
theorem cdX23_9 : xCd RX23 9 28 3 := ⟨_, _, _, by decide, rfl, in_J2, tyJ2_ok, q3939, q501, q382⟩
set_option maxRecDepth 100000 in
theorem fdX23_12 : xFd RX23 12 23 22 (.object "java/util/ArrayList") true := ⟨_, _, _, by decide, rfl, by decide, in_X23, q3965, rfl, tyX23_ok, nmX23, rfl, by decide⟩
set_option maxRecDepth 100000 in
theorem owX23_init_22 : xOwn YX23_init 23 22 := ⟨rfl, _, _, rfl, rfl⟩
set_option maxRecDepth 100000 in
theorem fdX23_18 : xFd RX23 18 23 24 (.int) false := ⟨_, _, _, by decide, rfl, by decide, in_X23, q3968, rfl, tyX23_ok, nmX23, rfl, by decide⟩
set_option maxRecDepth 100000 in
theorem fdX23_22 : xFd RX23 22 23 0 (.int) true := ⟨_, _, _, by decide, rfl, by decide, in_X23, q3941, rfl, tyX23_ok, nmX23, rfl, by decide⟩
set_option maxRecDepth 100000 in
theorem owX23_init_0 : xOwn YX23_init 23 0 := ⟨rfl, _, _, rfl, rfl⟩
set_option maxRecDepth 100000 in
theorem fdX23_25 : xFd RX23 25 23 1 (.int) true := ⟨_, _, _, by decide, rfl, by decide, in_X23, q3943, rfl, tyX23_ok, nmX23, rfl, by decide⟩
set_option maxRecDepth 100000 in
theorem owX23_init_1 : xOwn YX23_init 23 1 := ⟨rfl, _, _, rfl, rfl⟩
set_option maxRecDepth 100000 in
theorem cdX9_9 : xCd RX9 9 10 4 := ⟨_, _, _, by decide, rfl, in_X10, tyX10_ok, q1202, q1203, q400⟩
set_option maxRecDepth 100000 in
theorem miX10_init : xMi YX10_init 0 := ⟨⟨q1206, plainFor_of_name pnX10, mhX10, pd1⟩, q1205, rfl, rfl, rfl⟩
set_option maxRecDepth 100000 in
theorem fdX9_12 : xFd RX9 12 9 1 (.object "PascalHouse$Memory") true := ⟨_, _, _, by decide, rfl, by decide, in_X9, q1301, rfl, tyX9_ok, nmX9, rfl, by decide⟩
set_option maxRecDepth 100000 in
theorem owX9_init_1 : xOwn YX9_init 9 1 := ⟨rfl, _, _, rfl, rfl⟩
set_option maxRecDepth 100000 in
theorem cdX9_18 : xCd RX9 18 11 16 := ⟨_, _, _, by decide, rfl, in_X11, tyX11_ok, q1232, q1233, q401⟩
set_option maxRecDepth 100000 in
theorem pd121 : (parseMethodDescriptor "(LPascalHouse$Memory;)V").map (fun s => s.parameters.length) = some 1 := by decide +kernel
set_option maxRecDepth 100000 in
theorem miX11_init : xMi YX11_init 1 := ⟨⟨q1236, plainFor_of_name pnX11, mhX11, pd121⟩, q1235, rfl, rfl, rfl⟩
set_option maxRecDepth 100000 in
theorem fdX9_23 : xFd RX9 23 9 2 (.object "PascalHouse$FileRows") true := ⟨_, _, _, by decide, rfl, by decide, in_X9, q1302, rfl, tyX9_ok, nmX9, rfl, by decide⟩
set_option maxRecDepth 100000 in
theorem owX9_init_2 : xOwn YX9_init 9 2 := ⟨rfl, _, _, rfl, rfl⟩
set_option maxRecDepth 100000 in
theorem fdX9_28 : xFd RX9 28 9 3 (.array .long) true := ⟨_, _, _, by decide, rfl, by decide, in_X9, q1304, rfl, tyX9_ok, nmX9, rfl, by decide⟩
set_option maxRecDepth 100000 in
theorem owX9_init_3 : xOwn YX9_init 9 3 := ⟨rfl, _, _, rfl, rfl⟩
set_option maxRecDepth 100000 in
theorem fdX9_32 : xFd RX9 32 9 4 (.array .long) true := ⟨_, _, _, by decide, rfl, by decide, in_X9, q1305, rfl, tyX9_ok, nmX9, rfl, by decide⟩
set_option maxRecDepth 100000 in
theorem owX9_init_4 : xOwn YX9_init 9 4 := ⟨rfl, _, _, rfl, rfl⟩
set_option maxRecDepth 100000 in
theorem fdX9_35 : xFd RX9 35 9 5 (.array .double) true := ⟨_, _, _, by decide, rfl, by decide, in_X9, q1306, rfl, tyX9_ok, nmX9, rfl, by decide⟩
set_option maxRecDepth 100000 in
theorem owX9_init_5 : xOwn YX9_init 9 5 := ⟨rfl, _, _, rfl, rfl⟩
set_option maxRecDepth 100000 in
theorem fdX9_39 : xFd RX9 39 9 8 (.array .int) true := ⟨_, _, _, by decide, rfl, by decide, in_X9, q1309, rfl, tyX9_ok, nmX9, rfl, by decide⟩
set_option maxRecDepth 100000 in
theorem owX9_init_8 : xOwn YX9_init 9 8 := ⟨rfl, _, _, rfl, rfl⟩
set_option maxRecDepth 100000 in
theorem fdX9_43 : xFd RX9 43 9 9 (.array .int) true := ⟨_, _, _, by decide, rfl, by decide, in_X9, q1310, rfl, tyX9_ok, nmX9, rfl, by decide⟩
set_option maxRecDepth 100000 in
theorem owX9_init_9 : xOwn YX9_init 9 9 := ⟨rfl, _, _, rfl, rfl⟩
set_option maxRecDepth 100000 in
theorem fdX9_46 : xFd RX9 46 9 10 (.array .int) true := ⟨_, _, _, by decide, rfl, by decide, in_X9, q1311, rfl, tyX9_ok, nmX9, rfl, by decide⟩
set_option maxRecDepth 100000 in
theorem owX9_init_10 : xOwn YX9_init 9 10 := ⟨rfl, _, _, rfl, rfl⟩
set_option maxRecDepth 100000 in
theorem fdX9_49 : xFd RX9 49 9 11 (.array .int) true := ⟨_, _, _, by decide, rfl, by decide, in_X9, q1312, rfl, tyX9_ok, nmX9, rfl, by decide⟩
set_option maxRecDepth 100000 in
theorem owX9_init_11 : xOwn YX9_init 9 11 := ⟨rfl, _, _, rfl, rfl⟩
set_option maxRecDepth 100000 in
theorem fdX9_52 : xFd RX9 52 9 12 (.array .int) true := ⟨_, _, _, by decide, rfl, by decide, in_X9, q1313, rfl, tyX9_ok, nmX9, rfl, by decide⟩
set_option maxRecDepth 100000 in
theorem owX9_init_12 : xOwn YX9_init 9 12 := ⟨rfl, _, _, rfl, rfl⟩
set_option maxRecDepth 100000 in
theorem anX9_55 : xAd RX9 55 7 := ⟨_, by decide, rfl, q1298, by simp [xao]⟩
set_option maxRecDepth 100000 in
theorem fdX9_57 : xFd RX9 57 9 13 (.array (.object "PascalHouse$Routine")) true := ⟨_, _, _, by decide, rfl, by decide, in_X9, q1314, rfl, tyX9_ok, nmX9, rfl, by decide⟩
set_option maxRecDepth 100000 in
theorem owX9_init_13 : xOwn YX9_init 9 13 := ⟨rfl, _, _, rfl, rfl⟩
set_option maxRecDepth 100000 in
theorem fdX9_61 : xFd RX9 61 9 14 (.array .long) true := ⟨_, _, _, by decide, rfl, by decide, in_X9, q1315, rfl, tyX9_ok, nmX9, rfl, by decide⟩
set_option maxRecDepth 100000 in
theorem owX9_init_14 : xOwn YX9_init 9 14 := ⟨rfl, _, _, rfl, rfl⟩
set_option maxRecDepth 100000 in
theorem fdX9_64 : xFd RX9 64 9 17 (.array .int) true := ⟨_, _, _, by decide, rfl, by decide, in_X9, q1318, rfl, tyX9_ok, nmX9, rfl, by decide⟩
set_option maxRecDepth 100000 in
theorem owX9_init_17 : xOwn YX9_init 9 17 := ⟨rfl, _, _, rfl, rfl⟩
set_option maxRecDepth 100000 in
theorem fdX9_67 : xFd RX9 67 9 18 (.array .boolean) true := ⟨_, _, _, by decide, rfl, by decide, in_X9, q1319, rfl, tyX9_ok, nmX9, rfl, by decide⟩
set_option maxRecDepth 100000 in
theorem owX9_init_18 : xOwn YX9_init 9 18 := ⟨rfl, _, _, rfl, rfl⟩
set_option maxRecDepth 100000 in
theorem fdX9_71 : xFd RX9 71 9 29 (.array .byte) true := ⟨_, _, _, by decide, rfl, by decide, in_X9, q1337, rfl, tyX9_ok, nmX9, rfl, by decide⟩
set_option maxRecDepth 100000 in
theorem owX9_init_29 : xOwn YX9_init 9 29 := ⟨rfl, _, _, rfl, rfl⟩
set_option maxRecDepth 100000 in
theorem fdX9_75 : xFd RX9 75 9 0 (.object "PascalHouse$Code") true := ⟨_, _, _, by decide, rfl, by decide, in_X9, q1300, rfl, tyX9_ok, nmX9, rfl, by decide⟩
set_option maxRecDepth 100000 in
theorem owX9_init_0 : xOwn YX9_init 9 0 := ⟨rfl, _, _, rfl, rfl⟩
set_option maxRecDepth 100000 in
theorem fdX9_86 : xFd RX9 86 9 6 (.int) false := ⟨_, _, _, by decide, rfl, by decide, in_X9, q1307, rfl, tyX9_ok, nmX9, rfl, by decide⟩
set_option maxRecDepth 100000 in
theorem fdX9_89 : xFd RX9 89 9 15 (.int) false := ⟨_, _, _, by decide, rfl, by decide, in_X9, q1316, rfl, tyX9_ok, nmX9, rfl, by decide⟩
set_option maxRecDepth 100000 in
theorem gfX9_92 : xFn RX9 92 16 8 (.int) false := ⟨_, _, _, _, by decide, rfl, by decide, in_X16, List.mem_filter.mpr ⟨q2041, rfl⟩, rfl, tyX16_ok, nmX16, rfl, by decide⟩
set_option maxRecDepth 100000 in
theorem fdX9_95 : xFd RX9 95 9 16 (.int) false := ⟨_, _, _, by decide, rfl, by decide, in_X9, q1317, rfl, tyX9_ok, nmX9, rfl, by decide⟩
set_option maxRecDepth 100000 in
theorem fdX9_79 : xFd RX9 79 9 22 (.int) false := ⟨_, _, _, by decide, rfl, by decide, in_X9, q1325, rfl, tyX9_ok, nmX9, rfl, by decide⟩
set_option maxRecDepth 100000 in
theorem fdX9_83 : xFd RX9 83 9 23 (.int) false := ⟨_, _, _, by decide, rfl, by decide, in_X9, q1327, rfl, tyX9_ok, nmX9, rfl, by decide⟩
set_option maxRecDepth 100000 in
theorem fdX9_98 : xFd RX9 98 9 24 (.int) false := ⟨_, _, _, by decide, rfl, by decide, in_X9, q1329, rfl, tyX9_ok, nmX9, rfl, by decide⟩
set_option maxRecDepth 100000 in
theorem fdX9_101 : xFd RX9 101 9 25 (.int) false := ⟨_, _, _, by decide, rfl, by decide, in_X9, q1331, rfl, tyX9_ok, nmX9, rfl, by decide⟩
set_option maxRecDepth 100000 in
theorem fdX9_104 : xFd RX9 104 9 26 (.int) false := ⟨_, _, _, by decide, rfl, by decide, in_X9, q1332, rfl, tyX9_ok, nmX9, rfl, by decide⟩
set_option maxRecDepth 100000 in
theorem fdX9_107 : xFd RX9 107 9 27 (.int) false := ⟨_, _, _, by decide, rfl, by decide, in_X9, q1334, rfl, tyX9_ok, nmX9, rfl, by decide⟩
set_option maxRecDepth 100000 in
theorem fdX9_110 : xFd RX9 110 9 28 (.boolean) false := ⟨_, _, _, by decide, rfl, by decide, in_X9, q1336, rfl, tyX9_ok, nmX9, rfl, by decide⟩
set_option maxRecDepth 100000 in
theorem fdX9_114 : xFd RX9 114 9 19 (.int) false := ⟨_, _, _, by decide, rfl, by decide, in_X9, q1320, rfl, tyX9_ok, nmX9, rfl, by decide⟩
set_option maxRecDepth 100000 in
theorem fdX9_117 : xFd RX9 117 9 20 (.int) false := ⟨_, _, _, by decide, rfl, by decide, in_X9, q1321, rfl, tyX9_ok, nmX9, rfl, by decide⟩
set_option maxRecDepth 100000 in
theorem fdX9_120 : xFd RX9 120 9 21 (.int) false := ⟨_, _, _, by decide, rfl, by decide, in_X9, q1323, rfl, tyX9_ok, nmX9, rfl, by decide⟩
set_option maxRecDepth 100000 in
theorem mvX11_begin : xMv YX11_begin 11 0 := ⟨_, _, _, by decide, rfl, ⟨q2830, plainFor_of_name pnX11, mhX11, pd1⟩, q2828, q2829⟩
set_option maxRecDepth 100000 in
theorem as_7_16 : xas 7 16 := ⟨_, _, _, _, by decide, rfl, by decide, rfl, Or.inl rfl⟩
set_option maxRecDepth 100000 in
theorem gfX9_126 : xFn RX9 126 16 7 (.int) false := ⟨_, _, _, _, by decide, rfl, by decide, in_X16, List.mem_filter.mpr ⟨q2039, rfl⟩, rfl, tyX16_ok, nmX16, rfl, by decide⟩
set_option maxRecDepth 100000 in
theorem fdX9_129 : xFd RX9 129 9 7 (.int) false := ⟨_, _, _, by decide, rfl, by decide, in_X9, q1308, rfl, tyX9_ok, nmX9, rfl, by decide⟩
set_option maxRecDepth 100000 in
theorem gfX9_132 : xFn RX9 132 2 9 (.int) false := ⟨_, _, _, _, by decide, rfl, by decide, in_X2, List.mem_filter.mpr ⟨q548, rfl⟩, rfl, tyX2_ok, nmX2, rfl, by decide⟩
set_option maxRecDepth 100000 in
theorem mvX9_opens : xMv YX9_opens 9 2 := ⟨_, _, _, by decide, rfl, ⟨q2842, plainFor_of_name pnX9, mhX9, pd109⟩, q2841, qs146⟩
set_option maxRecDepth 100000 in
theorem gfX9_144 : xFn RX9 144 16 2 (.int) true := ⟨_, _, _, _, by decide, rfl, by decide, in_X16, List.mem_filter.mpr ⟨q2028, rfl⟩, rfl, tyX16_ok, nmX16, rfl, by decide⟩
set_option maxRecDepth 100000 in
theorem mvX9_fail : xMv YX9_fail 9 2 := ⟨_, _, _, by decide, rfl, ⟨q2838, plainFor_of_name pnX9, mhX9, pd8⟩, q2837, qs145⟩
set_option maxRecDepth 100000 in
theorem gfX9_137 : xFn RX9 137 2 8 (.array .byte) true := ⟨_, _, _, _, by decide, rfl, by decide, in_X2, List.mem_filter.mpr ⟨q546, rfl⟩, rfl, tyX2_ok, nmX2, rfl, by decide⟩
set_option maxRecDepth 100000 in
theorem pd122 : (parseMethodDescriptor "(IJ)V").map (fun s => s.parameters.length) = some 2 := by decide +kernel
set_option maxRecDepth 100000 in
theorem mvX10_set : xMv YX10_set 10 2 := ⟨_, _, _, by decide, rfl, ⟨q2834, plainFor_of_name pnX10, mhX10, pd122⟩, q2832, q2833⟩
set_option maxRecDepth 100000 in
theorem gfX9_158 : xFn RX9 158 16 15 (.object "java/util/ArrayList") true := ⟨_, _, _, _, by decide, rfl, by decide, in_X16, List.mem_filter.mpr ⟨q2050, rfl⟩, rfl, tyX16_ok, nmX16, rfl, by decide⟩
set_option maxRecDepth 100000 in
theorem gfX9_172 : xFn RX9 172 8 5 (.int) false := ⟨_, _, _, _, by decide, rfl, by decide, in_X8, List.mem_filter.mpr ⟨q975, rfl⟩, rfl, tyX8_ok, nmX8, rfl, by decide⟩
set_option maxRecDepth 100000 in
theorem gfX9_175 : xFn RX9 175 8 2 (.object "PascalHouse$Type") false := ⟨_, _, _, _, by decide, rfl, by decide, in_X8, List.mem_filter.mpr ⟨q971, rfl⟩, rfl, tyX8_ok, nmX8, rfl, by decide⟩
set_option maxRecDepth 100000 in
theorem pd123 : (parseMethodDescriptor "(ILPascalHouse$Type;)V").map (fun s => s.parameters.length) = some 2 := by decide +kernel
set_option maxRecDepth 100000 in
theorem mvX11_open : xMv YX11_open 11 2 := ⟨_, _, _, by decide, rfl, ⟨q2853, plainFor_of_name pnX11, mhX11, pd123⟩, q2851, q2852⟩
set_option maxRecDepth 100000 in
theorem gfX9_183 : xFn RX9 183 2 0 (.array .int) false := ⟨_, _, _, _, by decide, rfl, by decide, in_X2, List.mem_filter.mpr ⟨q530, rfl⟩, rfl, tyX2_ok, nmX2, rfl, by decide⟩
set_option maxRecDepth 100000 in
theorem mvX9_library : xMv YX9_library 9 2 := ⟨_, _, _, by decide, rfl, ⟨q3079, plainFor_of_name pnX9, mhX9, pd8⟩, q3078, qs181⟩
set_option maxRecDepth 100000 in
theorem mvX9_counts : xMv YX9_counts 9 2 := ⟨_, _, _, by decide, rfl, ⟨q3029, plainFor_of_name pnX9, mhX9, pd8⟩, q3028, qs179⟩
set_option maxRecDepth 100000 in
theorem mvX9_controls : xMv YX9_controls 9 2 := ⟨_, _, _, by decide, rfl, ⟨q2986, plainFor_of_name pnX9, mhX9, pd8⟩, q2985, qs169⟩
set_option maxRecDepth 100000 in
theorem mvX9_works : xMv YX9_works 9 2 := ⟨_, _, _, by decide, rfl, ⟨q2932, plainFor_of_name pnX9, mhX9, pd8⟩, q2931, qs158⟩
set_option maxRecDepth 100000 in
theorem mvX9_data : xMv YX9_data 9 2 := ⟨_, _, _, by decide, rfl, ⟨q2890, plainFor_of_name pnX9, mhX9, pd8⟩, q2889, qs149⟩
set_option maxRecDepth 100000 in
theorem gfX9_201 : xFn RX9 201 2 1 (.array .int) false := ⟨_, _, _, _, by decide, rfl, by decide, in_X2, List.mem_filter.mpr ⟨q532, rfl⟩, rfl, tyX2_ok, nmX2, rfl, by decide⟩
set_option maxRecDepth 100000 in
theorem gfX9_204 : xFn RX9 204 2 2 (.array .int) false := ⟨_, _, _, _, by decide, rfl, by decide, in_X2, List.mem_filter.mpr ⟨q534, rfl⟩, rfl, tyX2_ok, nmX2, rfl, by decide⟩
set_option maxRecDepth 100000 in
theorem mvX9_push : xMv YX9_push 9 1 := ⟨_, _, _, by decide, rfl, ⟨q2894, plainFor_of_name pnX9, mhX9, pd91⟩, q2893, qs150⟩
set_option maxRecDepth 100000 in
theorem gfX9_211 : xFn RX9 211 2 6 (.array .double) false := ⟨_, _, _, _, by decide, rfl, by decide, in_X2, List.mem_filter.mpr ⟨q543, rfl⟩, rfl, tyX2_ok, nmX2, rfl, by decide⟩
set_option maxRecDepth 100000 in
theorem mvX9_frameAbove : xMv YX9_frameAbove 9 1 := ⟨_, _, _, by decide, rfl, ⟨q2898, plainFor_of_name pnX9, mhX9, pd7⟩, q2897, qs151⟩
set_option maxRecDepth 100000 in
theorem gfX9_218 : xFn RX9 218 10 0 (.array .long) true := ⟨_, _, _, _, by decide, rfl, by decide, in_X10, List.mem_filter.mpr ⟨q1211, rfl⟩, rfl, tyX10_ok, nmX10, rfl, by decide⟩
set_option maxRecDepth 100000 in
theorem mvX9_pop : xMv YX9_pop 9 0 := ⟨_, _, _, by decide, rfl, ⟨q2902, plainFor_of_name pnX9, mhX9, pd3⟩, q2901, qs152⟩
set_option maxRecDepth 100000 in
theorem gfX9_224 : xFn RX9 224 2 3 (.array .int) false := ⟨_, _, _, _, by decide, rfl, by decide, in_X2, List.mem_filter.mpr ⟨q537, rfl⟩, rfl, tyX2_ok, nmX2, rfl, by decide⟩
set_option maxRecDepth 100000 in
theorem gfX9_222 : xFn RX9 222 2 4 (.array .int) false := ⟨_, _, _, _, by decide, rfl, by decide, in_X2, List.mem_filter.mpr ⟨q539, rfl⟩, rfl, tyX2_ok, nmX2, rfl, by decide⟩
set_option maxRecDepth 100000 in
theorem mvX9_points : xMv YX9_points 9 1 := ⟨_, _, _, by decide, rfl, ⟨q2906, plainFor_of_name pnX9, mhX9, pd0⟩, q2905, qs153⟩
set_option maxRecDepth 100000 in
theorem mvX9_stores : xMv YX9_stores 9 3 := ⟨_, _, _, by decide, rfl, ⟨q2924, plainFor_of_name pnX9, mhX9, pd35⟩, q2923, qs157⟩
set_option maxRecDepth 100000 in
theorem gfX9_231 : xFn RX9 231 2 11 (.object "java/util/ArrayList") true := ⟨_, _, _, _, by decide, rfl, by decide, in_X2, List.mem_filter.mpr ⟨q554, rfl⟩, rfl, tyX2_ok, nmX2, rfl, by decide⟩
set_option maxRecDepth 100000 in
theorem pd124 : (parseMethodDescriptor "(LPascalHouse$Part;II)V").map (fun s => s.parameters.length) = some 3 := by decide +kernel
set_option maxRecDepth 100000 in
theorem mvX9_looks : xMv YX9_looks 9 3 := ⟨_, _, _, by decide, rfl, ⟨q2911, plainFor_of_name pnX9, mhX9, pd124⟩, q2910, qs154⟩
set_option maxRecDepth 100000 in
theorem mvX9_loads : xMv YX9_loads 9 1 := ⟨_, _, _, by decide, rfl, ⟨q2920, plainFor_of_name pnX9, mhX9, pd0⟩, q2919, qs156⟩
set_option maxRecDepth 100000 in
theorem gfX9_247 : xFn RX9 247 10 3 (.array .boolean) true := ⟨_, _, _, _, by decide, rfl, by decide, in_X10, List.mem_filter.mpr ⟨q1220, rfl⟩, rfl, tyX10_ok, nmX10, rfl, by decide⟩
set_option maxRecDepth 100000 in
theorem gfX9_250 : xFn RX9 250 19 0 (.object "PascalHouse$Part") true := ⟨_, _, _, _, by decide, rfl, by decide, in_X19, List.mem_filter.mpr ⟨q2325, rfl⟩, rfl, tyX19_ok, nmX19, rfl, by decide⟩
set_option maxRecDepth 100000 in
theorem gfX9_254 : xFn RX9 254 19 1 (.int) true := ⟨_, _, _, _, by decide, rfl, by decide, in_X19, List.mem_filter.mpr ⟨q2327, rfl⟩, rfl, tyX19_ok, nmX19, rfl, by decide⟩
set_option maxRecDepth 100000 in
theorem gfX9_257 : xFn RX9 257 19 2 (.int) true := ⟨_, _, _, _, by decide, rfl, by decide, in_X19, List.mem_filter.mpr ⟨q2329, rfl⟩, rfl, tyX19_ok, nmX19, rfl, by decide⟩
set_option maxRecDepth 100000 in
theorem gfX9_260 : xFn RX9 260 19 5 (.boolean) false := ⟨_, _, _, _, by decide, rfl, by decide, in_X19, List.mem_filter.mpr ⟨q2334, rfl⟩, rfl, tyX19_ok, nmX19, rfl, by decide⟩
set_option maxRecDepth 100000 in
theorem mvX19_choiceOf : xMv YX19_choiceOf 19 1 := ⟨_, _, _, by decide, rfl, ⟨q2404, plainFor_of_name pnX19, mhX19, pd5⟩, q2402, q2403⟩
set_option maxRecDepth 100000 in
theorem gfX9_267 : xFn RX9 267 19 4 (.int) false := ⟨_, _, _, _, by decide, rfl, by decide, in_X19, List.mem_filter.mpr ⟨q2332, rfl⟩, rfl, tyX19_ok, nmX19, rfl, by decide⟩
set_option maxRecDepth 100000 in
theorem gfX9_270 : xFn RX9 270 19 3 (.int) false := ⟨_, _, _, _, by decide, rfl, by decide, in_X19, List.mem_filter.mpr ⟨q2330, rfl⟩, rfl, tyX19_ok, nmX19, rfl, by decide⟩
set_option maxRecDepth 100000 in
theorem mvX9_takes : xMv YX9_takes 9 2 := ⟨_, _, _, by decide, rfl, ⟨q2916, plainFor_of_name pnX9, mhX9, pd70⟩, q2915, qs155⟩
set_option maxRecDepth 100000 in
theorem gfX9_277 : xFn RX9 277 10 1 (.array .long) true := ⟨_, _, _, _, by decide, rfl, by decide, in_X10, List.mem_filter.mpr ⟨q1214, rfl⟩, rfl, tyX10_ok, nmX10, rfl, by decide⟩
set_option maxRecDepth 100000 in
theorem gfX9_278 : xFn RX9 278 10 2 (.array .double) true := ⟨_, _, _, _, by decide, rfl, by decide, in_X10, List.mem_filter.mpr ⟨q1217, rfl⟩, rfl, tyX10_ok, nmX10, rfl, by decide⟩
set_option maxRecDepth 100000 in
theorem mvX10_copy : xMv YX10_copy 10 3 := ⟨_, _, _, by decide, rfl, ⟨q2928, plainFor_of_name pnX10, mhX10, pd35⟩, q2926, q2927⟩
set_option maxRecDepth 100000 in
theorem mvX9_ofSets : xMv YX9_ofSets 9 1 := ⟨_, _, _, by decide, rfl, ⟨q2968, plainFor_of_name pnX9, mhX9, pd0⟩, q2967, qs166⟩
set_option maxRecDepth 100000 in
theorem mvX9_compares : xMv YX9_compares 9 2 := ⟨_, _, _, by decide, rfl, ⟨q2964, plainFor_of_name pnX9, mhX9, pd8⟩, q2963, qs165⟩
set_option maxRecDepth 100000 in
theorem pd125 : (parseMethodDescriptor "(IDDI)V").map (fun s => s.parameters.length) = some 4 := by decide +kernel
set_option maxRecDepth 100000 in
theorem mvX9_ofFractions : xMv YX9_ofFractions 9 4 := ⟨_, _, _, by decide, rfl, ⟨q2955, plainFor_of_name pnX9, mhX9, pd125⟩, q2954, qs163⟩
set_option maxRecDepth 100000 in
theorem pd126 : (parseMethodDescriptor "(IJJI)V").map (fun s => s.parameters.length) = some 4 := by decide +kernel
set_option maxRecDepth 100000 in
theorem mvX9_ofWholes : xMv YX9_ofWholes 9 4 := ⟨_, _, _, by decide, rfl, ⟨q2945, plainFor_of_name pnX9, mhX9, pd126⟩, q2944, qs161⟩
set_option maxRecDepth 100000 in
theorem mvX9_puts : xMv YX9_puts 9 1 := ⟨_, _, _, by decide, rfl, ⟨q2941, plainFor_of_name pnX9, mhX9, pd0⟩, q2940, qs160⟩
set_option maxRecDepth 100000 in
theorem mvX9_spans : xMv YX9_spans 9 1 := ⟨_, _, _, by decide, rfl, ⟨q2936, plainFor_of_name pnX9, mhX9, pd0⟩, q2935, qs159⟩
set_option maxRecDepth 100000 in
theorem mvX9_whole : xMv YX9_whole 9 2 := ⟨_, _, _, by decide, rfl, ⟨q2949, plainFor_of_name pnX9, mhX9, pd95⟩, q2948, qs162⟩
set_option maxRecDepth 100000 in
theorem mvX9_fraction : xMv YX9_fraction 9 2 := ⟨_, _, _, by decide, rfl, ⟨q2959, plainFor_of_name pnX9, mhX9, pd79⟩, q2958, qs164⟩
set_option maxRecDepth 100000 in
theorem msX0_isFinite : xMs YX0_isFinite 1 := ⟨⟨q1677, plainFor_of_name pnX0, mhX0, pd78⟩, q1676, q377⟩
set_option maxRecDepth 100000 in
theorem pd127 : (parseMethodDescriptor "(IIII)I").map (fun s => s.parameters.length) = some 4 := by decide +kernel
set_option maxRecDepth 100000 in
theorem mvX9_strings : xMv YX9_strings 9 4 := ⟨_, _, _, by decide, rfl, ⟨q2978, plainFor_of_name pnX9, mhX9, pd127⟩, q2977, qs167⟩
set_option maxRecDepth 100000 in
theorem msX9_is : xMs YX9_is 2 := ⟨⟨q2974, plainFor_of_name pnX9, mhX9, pd70⟩, q2973, q399⟩
set_option maxRecDepth 100000 in
theorem mvX9_isWhole : xMv YX9_isWhole 9 2 := ⟨_, _, _, by decide, rfl, ⟨q2982, plainFor_of_name pnX9, mhX9, pd70⟩, q2981, qs168⟩
set_option maxRecDepth 100000 in
theorem mvX9_chooses : xMv YX9_chooses 9 3 := ⟨_, _, _, by decide, rfl, ⟨q2990, plainFor_of_name pnX9, mhX9, pd35⟩, q2989, qs170⟩
set_option maxRecDepth 100000 in
theorem pd128 : (parseMethodDescriptor "(IIII)V").map (fun s => s.parameters.length) = some 4 := by decide +kernel
set_option maxRecDepth 100000 in
theorem mvX9_begins : xMv YX9_begins 9 4 := ⟨_, _, _, by decide, rfl, ⟨q2994, plainFor_of_name pnX9, mhX9, pd128⟩, q2993, qs171⟩
set_option maxRecDepth 100000 in
theorem mvX9_repeats : xMv YX9_repeats 9 3 := ⟨_, _, _, by decide, rfl, ⟨q2998, plainFor_of_name pnX9, mhX9, pd35⟩, q2997, qs172⟩
set_option maxRecDepth 100000 in
theorem gfX9_346 : xFn RX9 346 2 10 (.object "java/util/ArrayList") true := ⟨_, _, _, _, by decide, rfl, by decide, in_X2, List.mem_filter.mpr ⟨q551, rfl⟩, rfl, tyX2_ok, nmX2, rfl, by decide⟩
set_option maxRecDepth 100000 in
theorem pd129 : (parseMethodDescriptor "(LPascalHouse$Routine;II)V").map (fun s => s.parameters.length) = some 3 := by decide +kernel
set_option maxRecDepth 100000 in
theorem mvX9_calls : xMv YX9_calls 9 3 := ⟨_, _, _, by decide, rfl, ⟨q3002, plainFor_of_name pnX9, mhX9, pd129⟩, q3001, qs173⟩
set_option maxRecDepth 100000 in
theorem mvX9_returns : xMv YX9_returns 9 0 := ⟨_, _, _, by decide, rfl, ⟨q3012, plainFor_of_name pnX9, mhX9, pd1⟩, q3011, qs175⟩
set_option maxRecDepth 100000 in
theorem mvX9_leaps : xMv YX9_leaps 9 2 := ⟨_, _, _, by decide, rfl, ⟨q3021, plainFor_of_name pnX9, mhX9, pd8⟩, q3020, qs177⟩
set_option maxRecDepth 100000 in
theorem mvX9_bounds : xMv YX9_bounds 9 3 := ⟨_, _, _, by decide, rfl, ⟨q3025, plainFor_of_name pnX9, mhX9, pd35⟩, q3024, qs178⟩
set_option maxRecDepth 100000 in
theorem gfX9_362 : xFn RX9 362 2 12 (.array .int) false := ⟨_, _, _, _, by decide, rfl, by decide, in_X2, List.mem_filter.mpr ⟨q557, rfl⟩, rfl, tyX2_ok, nmX2, rfl, by decide⟩
set_option maxRecDepth 100000 in
theorem gfX9_365 : xFn RX9 365 2 13 (.array .int) false := ⟨_, _, _, _, by decide, rfl, by decide, in_X2, List.mem_filter.mpr ⟨q559, rfl⟩, rfl, tyX2_ok, nmX2, rfl, by decide⟩
set_option maxRecDepth 100000 in
theorem gfX9_368 : xFn RX9 368 16 3 (.object "java/util/ArrayList") true := ⟨_, _, _, _, by decide, rfl, by decide, in_X16, List.mem_filter.mpr ⟨q2031, rfl⟩, rfl, tyX16_ok, nmX16, rfl, by decide⟩
set_option maxRecDepth 100000 in
theorem pd130 : (parseMethodDescriptor "(LPascalHouse$Parameter;II)V").map (fun s => s.parameters.length) = some 3 := by decide +kernel
set_option maxRecDepth 100000 in
theorem mvX9_gives : xMv YX9_gives 9 3 := ⟨_, _, _, by decide, rfl, ⟨q3007, plainFor_of_name pnX9, mhX9, pd130⟩, q3006, qs174⟩
set_option maxRecDepth 100000 in
theorem gfX9_377 : xFn RX9 377 21 4 (.int) false := ⟨_, _, _, _, by decide, rfl, by decide, in_X21, List.mem_filter.mpr ⟨q2473, rfl⟩, rfl, tyX21_ok, nmX21, rfl, by decide⟩
set_option maxRecDepth 100000 in
theorem gfX9_378 : xFn RX9 378 21 0 (.int) true := ⟨_, _, _, _, by decide, rfl, by decide, in_X21, List.mem_filter.mpr ⟨q2463, rfl⟩, rfl, tyX21_ok, nmX21, rfl, by decide⟩
set_option maxRecDepth 100000 in
theorem gfX9_381 : xFn RX9 381 21 1 (.object "PascalHouse$Type") true := ⟨_, _, _, _, by decide, rfl, by decide, in_X21, List.mem_filter.mpr ⟨q2467, rfl⟩, rfl, tyX21_ok, nmX21, rfl, by decide⟩
set_option maxRecDepth 100000 in
theorem mvX6_isStructure : xMv YX6_isStructure 6 0 := ⟨_, _, _, by decide, rfl, ⟨q2797, plainFor_of_name pnX6, mhX6, pd6⟩, q2795, q2796⟩
set_option maxRecDepth 100000 in
theorem gfX9_388 : xFn RX9 388 6 7 (.int) false := ⟨_, _, _, _, by decide, rfl, by decide, in_X6, List.mem_filter.mpr ⟨q712, rfl⟩, rfl, tyX6_ok, nmX6, rfl, by decide⟩
set_option maxRecDepth 100000 in
theorem gfX9_392 : xFn RX9 392 16 1 (.boolean) true := ⟨_, _, _, _, by decide, rfl, by decide, in_X16, List.mem_filter.mpr ⟨q2026, rfl⟩, rfl, tyX16_ok, nmX16, rfl, by decide⟩
set_option maxRecDepth 100000 in
theorem mvX9_ends : xMv YX9_ends 9 0 := ⟨_, _, _, by decide, rfl, ⟨q3016, plainFor_of_name pnX9, mhX9, pd1⟩, q3015, qs176⟩
set_option maxRecDepth 100000 in
theorem gfX9_398 : xFn RX9 398 2 15 (.array .int) false := ⟨_, _, _, _, by decide, rfl, by decide, in_X2, List.mem_filter.mpr ⟨q563, rfl⟩, rfl, tyX2_ok, nmX2, rfl, by decide⟩
set_option maxRecDepth 100000 in
theorem msJ10_sqrt : xMs YJ10_sqrt 1 := ⟨⟨q3032, by decide +kernel, mhJ10, pd80⟩, q3031, q395⟩
set_option maxRecDepth 100000 in
theorem mvX9_cuts : xMv YX9_cuts 9 2 := ⟨_, _, _, by decide, rfl, ⟨q3071, plainFor_of_name pnX9, mhX9, pd79⟩, q3070, qs180⟩
set_option maxRecDepth 100000 in
theorem mvX9_asks : xMv YX9_asks 9 3 := ⟨_, _, _, by decide, rfl, ⟨q3130, plainFor_of_name pnX9, mhX9, pd35⟩, q3129, qs189⟩
set_option maxRecDepth 100000 in
theorem gfX9_429 : xFn RX9 429 11 1 (.array .int) true := ⟨_, _, _, _, by decide, rfl, by decide, in_X11, List.mem_filter.mpr ⟨q1242, rfl⟩, rfl, tyX11_ok, nmX11, rfl, by decide⟩
set_option maxRecDepth 100000 in
theorem gfX9_435 : xFn RX9 435 11 8 (.array .boolean) true := ⟨_, _, _, _, by decide, rfl, by decide, in_X11, List.mem_filter.mpr ⟨q1254, rfl⟩, rfl, tyX11_ok, nmX11, rfl, by decide⟩
set_option maxRecDepth 100000 in
theorem gfX9_432 : xFn RX9 432 11 4 (.array .int) true := ⟨_, _, _, _, by decide, rfl, by decide, in_X11, List.mem_filter.mpr ⟨q1247, rfl⟩, rfl, tyX11_ok, nmX11, rfl, by decide⟩
set_option maxRecDepth 100000 in
theorem mvX9_readsNumber : xMv YX9_readsNumber 9 4 := ⟨_, _, _, by decide, rfl, ⟨q3164, plainFor_of_name pnX9, mhX9, pd128⟩, q3163, qs194⟩
set_option maxRecDepth 100000 in
theorem mvX9_passes : xMv YX9_passes 9 2 := ⟨_, _, _, by decide, rfl, ⟨q3160, plainFor_of_name pnX9, mhX9, pd8⟩, q3159, qs193⟩
set_option maxRecDepth 100000 in
theorem mvX9_makes : xMv YX9_makes 9 3 := ⟨_, _, _, by decide, rfl, ⟨q3138, plainFor_of_name pnX9, mhX9, pd35⟩, q3137, qs190⟩
set_option maxRecDepth 100000 in
theorem mvX9_drops : xMv YX9_drops 9 1 := ⟨_, _, _, by decide, rfl, ⟨q3142, plainFor_of_name pnX9, mhX9, pd0⟩, q3141, qs191⟩
set_option maxRecDepth 100000 in
theorem mvX9_writes : xMv YX9_writes 9 2 := ⟨_, _, _, by decide, rfl, ⟨q3083, plainFor_of_name pnX9, mhX9, pd8⟩, q3082, qs182⟩
set_option maxRecDepth 100000 in
theorem mvX11_goOn : xMv YX11_goOn 11 1 := ⟨_, _, _, by decide, rfl, ⟨q3148, plainFor_of_name pnX11, mhX11, pd0⟩, q3146, q3147⟩
set_option maxRecDepth 100000 in
theorem pd131 : (parseMethodDescriptor "(IIZI)V").map (fun s => s.parameters.length) = some 4 := by decide +kernel
set_option maxRecDepth 100000 in
theorem mvX9_adds : xMv YX9_adds 9 4 := ⟨_, _, _, by decide, rfl, ⟨q3152, plainFor_of_name pnX9, mhX9, pd131⟩, q3151, qs192⟩
set_option maxRecDepth 100000 in
theorem fdX9_491 : xFd RX9 491 9 30 (.int) false := ⟨_, _, _, by decide, rfl, by decide, in_X9, q1338, rfl, tyX9_ok, nmX9, rfl, by decide⟩
set_option maxRecDepth 100000 in
theorem mvX9_letter : xMv YX9_letter 9 1 := ⟨_, _, _, by decide, rfl, ⟨q3087, plainFor_of_name pnX9, mhX9, pd0⟩, q3086, qs183⟩
set_option maxRecDepth 100000 in
theorem mvX9_out : xMv YX9_out 9 4 := ⟨_, _, _, by decide, rfl, ⟨q3091, plainFor_of_name pnX9, mhX9, pd131⟩, q3090, qs184⟩
set_option maxRecDepth 100000 in
theorem srX9_528 : ∃ t, xstrs[140]? = some (RX9, 528, t, 40) := ⟨_, rfl⟩
set_option maxRecDepth 100000 in
theorem srX9_526 : ∃ t, xstrs[139]? = some (RX9, 526, t, 41) := ⟨_, rfl⟩
set_option maxRecDepth 100000 in
theorem mvX9_fractions : xMv YX9_fractions 9 3 := ⟨_, _, _, by decide, rfl, ⟨q3110, plainFor_of_name pnX9, mhX9, pd93⟩, q3109, qs186⟩
set_option maxRecDepth 100000 in
theorem mvX9_word : xMv YX9_word 9 1 := ⟨_, _, _, by decide, rfl, ⟨q3119, plainFor_of_name pnX9, mhX9, pd94⟩, q3118, qs187⟩
set_option maxRecDepth 100000 in
theorem mvX9_string : xMv YX9_string 9 2 := ⟨_, _, _, by decide, rfl, ⟨q3126, plainFor_of_name pnX9, mhX9, pd70⟩, q3125, qs188⟩
set_option maxRecDepth 100000 in
theorem mvX9_digits : xMv YX9_digits 9 2 := ⟨_, _, _, by decide, rfl, ⟨q3105, plainFor_of_name pnX9, mhX9, pd95⟩, q3104, qs185⟩
set_option maxRecDepth 100000 in
theorem mvX11_hasRoom : xMv YX11_hasRoom 11 2 := ⟨_, _, _, by decide, rfl, ⟨q3095, plainFor_of_name pnX11, mhX11, pd70⟩, q3093, q3094⟩
set_option maxRecDepth 100000 in
theorem mvX11_here : xMv YX11_here 11 1 := ⟨_, _, _, by decide, rfl, ⟨q3134, plainFor_of_name pnX11, mhX11, pd7⟩, q3132, q3133⟩
set_option maxRecDepth 100000 in
theorem gfX9_460 : xFn RX9 460 11 6 (.array .int) true := ⟨_, _, _, _, by decide, rfl, by decide, in_X11, List.mem_filter.mpr ⟨q1250, rfl⟩, rfl, tyX11_ok, nmX11, rfl, by decide⟩
set_option maxRecDepth 100000 in
theorem mvX11_addBuffer : xMv YX11_addBuffer 11 1 := ⟨_, _, _, by decide, rfl, ⟨q3156, plainFor_of_name pnX11, mhX11, pd0⟩, q3154, q3155⟩
set_option maxRecDepth 100000 in
theorem mvX11_ahead : xMv YX11_ahead 11 2 := ⟨_, _, _, by decide, rfl, ⟨q3168, plainFor_of_name pnX11, mhX11, pd31⟩, q3166, q3167⟩
set_option maxRecDepth 100000 in
theorem msX0_isDigit : xMs YX0_isDigit 1 := ⟨⟨q1637, plainFor_of_name pnX0, mhX0, pd34⟩, q1636, q377⟩
set_option maxRecDepth 100000 in
theorem pd132 : (parseMethodDescriptor "(IJIIZI)V").map (fun s => s.parameters.length) = some 6 := by decide +kernel
set_option maxRecDepth 100000 in
theorem mvX9_pushReal : xMv YX9_pushReal 9 6 := ⟨_, _, _, by decide, rfl, ⟨q3175, plainFor_of_name pnX9, mhX9, pd132⟩, q3174, qs195⟩
set_option maxRecDepth 100000 in
theorem pd133 : (parseMethodDescriptor "(JII)D").map (fun s => s.parameters.length) = some 3 := by decide +kernel
set_option maxRecDepth 100000 in
theorem msX0_realOf : xMs YX0_realOf 3 := ⟨⟨q1670, plainFor_of_name pnX0, mhX0, pd133⟩, q1669, q377⟩
set_option maxRecDepth 100000 in
theorem pnJ17 : plainName RJ17 = true := by decide +kernel
set_option maxRecDepth 100000 in
theorem mhJ17 : RJ17 ≠ "java/lang/invoke/MethodHandle" ∧ RJ17 ≠ "java/lang/invoke/VarHandle" := by decide +kernel
set_option maxRecDepth 100000 in
theorem msJ17_sqrt : xMs YJ17_sqrt 1 := ⟨⟨q3035, plainFor_of_name pnJ17, mhJ17, pd80⟩, q3034, q425⟩
set_option maxRecDepth 100000 in
theorem msJ20_isNaN : xMs YJ20_isNaN 1 := ⟨⟨q4584, plainFor_of_name pnJ20, mhJ20, pd78⟩, q4583, q429⟩
set_option maxRecDepth 100000 in
theorem fdX21_7 : xFd RX21 7 21 0 (.int) true := ⟨_, _, _, by decide, rfl, by decide, in_X21, q2461, rfl, tyX21_ok, nmX21, rfl, by decide⟩
set_option maxRecDepth 100000 in
theorem owX21_init_0 : xOwn YX21_init 21 0 := ⟨rfl, _, _, rfl, rfl⟩
set_option maxRecDepth 100000 in
theorem fdX21_13 : xFd RX21 13 21 1 (.object "PascalHouse$Type") true := ⟨_, _, _, by decide, rfl, by decide, in_X21, q2465, rfl, tyX21_ok, nmX21, rfl, by decide⟩
set_option maxRecDepth 100000 in
theorem owX21_init_1 : xOwn YX21_init 21 1 := ⟨rfl, _, _, rfl, rfl⟩
set_option maxRecDepth 100000 in
theorem fdX21_17 : xFd RX21 17 21 2 (.object "PascalHouse$Routine") true := ⟨_, _, _, by decide, rfl, by decide, in_X21, q2469, rfl, tyX21_ok, nmX21, rfl, by decide⟩
set_option maxRecDepth 100000 in
theorem owX21_init_2 : xOwn YX21_init 21 2 := ⟨rfl, _, _, rfl, rfl⟩
set_option maxRecDepth 100000 in
theorem fdX25_9 : xFd RX25 9 25 1 (.int) false := ⟨_, _, _, by decide, rfl, by decide, in_X25, q4146, rfl, tyX25_ok, nmX25, rfl, by decide⟩
set_option maxRecDepth 100000 in
theorem fdX25_15 : xFd RX25 15 25 0 (.int) true := ⟨_, _, _, by decide, rfl, by decide, in_X25, q4144, rfl, tyX25_ok, nmX25, rfl, by decide⟩
set_option maxRecDepth 100000 in
theorem owX25_init_0 : xOwn YX25_init 25 0 := ⟨rfl, _, _, rfl, rfl⟩
set_option maxRecDepth 100000 in
theorem msJ21_numberOfLeadingZeros : xMs YJ21_numberOfLeadingZeros 1 := ⟨⟨q4596, plainFor_of_name pnJ21, mhJ21, pd7⟩, q4595, q430⟩
set_option maxRecDepth 100000 in
theorem fdX14_7 : xFd RX14 7 14 0 (.object "PascalHouse$Sort") true := ⟨_, _, _, by decide, rfl, by decide, in_X14, q1602, rfl, tyX14_ok, nmX14, rfl, by decide⟩
set_option maxRecDepth 100000 in
theorem owX14_init_0 : xOwn YX14_init 14 0 := ⟨rfl, _, _, rfl, rfl⟩
set_option maxRecDepth 100000 in
theorem fdX14_13 : xFd RX14 13 14 1 (.object "java/lang/String") true := ⟨_, _, _, by decide, rfl, by decide, in_X14, q1605, rfl, tyX14_ok, nmX14, rfl, by decide⟩
set_option maxRecDepth 100000 in
theorem owX14_init_1 : xOwn YX14_init 14 1 := ⟨rfl, _, _, rfl, rfl⟩
set_option maxRecDepth 100000 in
theorem fdX14_17 : xFd RX14 17 14 2 (.int) true := ⟨_, _, _, by decide, rfl, by decide, in_X14, q1609, rfl, tyX14_ok, nmX14, rfl, by decide⟩
set_option maxRecDepth 100000 in
theorem owX14_init_2 : xOwn YX14_init 14 2 := ⟨rfl, _, _, rfl, rfl⟩
set_option maxRecDepth 100000 in
theorem fdX14_21 : xFd RX14 21 14 3 (.int) true := ⟨_, _, _, by decide, rfl, by decide, in_X14, q1612, rfl, tyX14_ok, nmX14, rfl, by decide⟩
set_option maxRecDepth 100000 in
theorem owX14_init_3 : xOwn YX14_init 14 3 := ⟨rfl, _, _, rfl, rfl⟩
set_option maxRecDepth 100000 in
theorem fdX14_24 : xFd RX14 24 14 4 (.double) true := ⟨_, _, _, by decide, rfl, by decide, in_X14, q1614, rfl, tyX14_ok, nmX14, rfl, by decide⟩
set_option maxRecDepth 100000 in
theorem owX14_init_4 : xOwn YX14_init 14 4 := ⟨rfl, _, _, rfl, rfl⟩
set_option maxRecDepth 100000 in
theorem cdX5_9 : xCd RX5 9 6 9 := ⟨_, _, _, by decide, rfl, in_X6, tyX6_ok, q687, q688, q390⟩
set_option maxRecDepth 100000 in
theorem pd134 : (parseMethodDescriptor "(II)LPascalHouse$Type;").map (fun s => s.parameters.length) = some 2 := by decide +kernel
set_option maxRecDepth 100000 in
theorem mvX6_bounded : xMv YX6_bounded 6 2 := ⟨_, _, _, by decide, rfl, ⟨q739, plainFor_of_name pnX6, mhX6, pd134⟩, q737, q738⟩
set_option maxRecDepth 100000 in
theorem fdX5_20 : xFd RX5 20 5 2 (.object "PascalHouse$Type") true := ⟨_, _, _, by decide, rfl, by decide, in_X5, q1109, rfl, tyX5_ok, nmX5, rfl, by decide⟩
set_option maxRecDepth 100000 in
theorem owX5_init_2 : xOwn YX5_init 5 2 := ⟨rfl, _, _, rfl, rfl⟩
set_option maxRecDepth 100000 in
theorem fdX5_26 : xFd RX5 26 5 3 (.object "PascalHouse$Type") true := ⟨_, _, _, by decide, rfl, by decide, in_X5, q1110, rfl, tyX5_ok, nmX5, rfl, by decide⟩
set_option maxRecDepth 100000 in
theorem owX5_init_3 : xOwn YX5_init 5 3 := ⟨rfl, _, _, rfl, rfl⟩
set_option maxRecDepth 100000 in
theorem fdX5_29 : xFd RX5 29 5 4 (.object "PascalHouse$Type") true := ⟨_, _, _, by decide, rfl, by decide, in_X5, q1111, rfl, tyX5_ok, nmX5, rfl, by decide⟩
set_option maxRecDepth 100000 in
theorem owX5_init_4 : xOwn YX5_init 5 4 := ⟨rfl, _, _, rfl, rfl⟩
set_option maxRecDepth 100000 in
theorem fdX5_32 : xFd RX5 32 5 5 (.object "PascalHouse$Type") true := ⟨_, _, _, by decide, rfl, by decide, in_X5, q1112, rfl, tyX5_ok, nmX5, rfl, by decide⟩
set_option maxRecDepth 100000 in
theorem owX5_init_5 : xOwn YX5_init 5 5 := ⟨rfl, _, _, rfl, rfl⟩
set_option maxRecDepth 100000 in
theorem fdX5_39 : xFd RX5 39 5 6 (.object "PascalHouse$Type") true := ⟨_, _, _, by decide, rfl, by decide, in_X5, q1113, rfl, tyX5_ok, nmX5, rfl, by decide⟩
set_option maxRecDepth 100000 in
theorem owX5_init_6 : xOwn YX5_init 5 6 := ⟨rfl, _, _, rfl, rfl⟩
set_option maxRecDepth 100000 in
theorem fdX5_42 : xFd RX5 42 5 7 (.object "PascalHouse$Type") true := ⟨_, _, _, by decide, rfl, by decide, in_X5, q1114, rfl, tyX5_ok, nmX5, rfl, by decide⟩
set_option maxRecDepth 100000 in
theorem owX5_init_7 : xOwn YX5_init 5 7 := ⟨rfl, _, _, rfl, rfl⟩
set_option maxRecDepth 100000 in
theorem fdX5_45 : xFd RX5 45 5 8 (.object "PascalHouse$Type") true := ⟨_, _, _, by decide, rfl, by decide, in_X5, q1115, rfl, tyX5_ok, nmX5, rfl, by decide⟩
set_option maxRecDepth 100000 in
theorem owX5_init_8 : xOwn YX5_init 5 8 := ⟨rfl, _, _, rfl, rfl⟩
set_option maxRecDepth 100000 in
theorem cdX5_48 : xCd RX5 48 28 3 := ⟨_, _, _, by decide, rfl, in_J2, tyJ2_ok, q744, q501, q382⟩
set_option maxRecDepth 100000 in
theorem fdX5_51 : xFd RX5 51 5 9 (.object "java/util/ArrayList") true := ⟨_, _, _, by decide, rfl, by decide, in_X5, q1116, rfl, tyX5_ok, nmX5, rfl, by decide⟩
set_option maxRecDepth 100000 in
theorem owX5_init_9 : xOwn YX5_init 5 9 := ⟨rfl, _, _, rfl, rfl⟩
set_option maxRecDepth 100000 in
theorem fdX5_55 : xFd RX5 55 5 10 (.object "java/util/ArrayList") true := ⟨_, _, _, by decide, rfl, by decide, in_X5, q1117, rfl, tyX5_ok, nmX5, rfl, by decide⟩
set_option maxRecDepth 100000 in
theorem owX5_init_10 : xOwn YX5_init 5 10 := ⟨rfl, _, _, rfl, rfl⟩
set_option maxRecDepth 100000 in
theorem fdX5_58 : xFd RX5 58 5 0 (.object "PascalHouse$Faults") true := ⟨_, _, _, by decide, rfl, by decide, in_X5, q1107, rfl, tyX5_ok, nmX5, rfl, by decide⟩
set_option maxRecDepth 100000 in
theorem owX5_init_0 : xOwn YX5_init 5 0 := ⟨rfl, _, _, rfl, rfl⟩
set_option maxRecDepth 100000 in
theorem fdX5_62 : xFd RX5 62 5 1 (.object "PascalHouse$Code") true := ⟨_, _, _, by decide, rfl, by decide, in_X5, q1108, rfl, tyX5_ok, nmX5, rfl, by decide⟩
set_option maxRecDepth 100000 in
theorem owX5_init_1 : xOwn YX5_init 5 1 := ⟨rfl, _, _, rfl, rfl⟩
set_option maxRecDepth 100000 in
theorem gfX5_66 : xFn RX5 66 6 7 (.int) false := ⟨_, _, _, _, by decide, rfl, by decide, in_X6, List.mem_filter.mpr ⟨q710, rfl⟩, rfl, tyX6_ok, nmX6, rfl, by decide⟩
set_option maxRecDepth 100000 in
theorem mvX5_begin : xMv YX5_begin 5 0 := ⟨_, _, _, by decide, rfl, ⟨q749, plainFor_of_name pnX5, mhX5, pd1⟩, q748, qs0⟩
set_option maxRecDepth 100000 in
theorem fdX5_73 : xFd RX5 73 5 13 (.object "PascalHouse$Scope") false := ⟨_, _, _, by decide, rfl, by decide, in_X5, q1120, rfl, tyX5_ok, nmX5, rfl, by decide⟩
set_option maxRecDepth 100000 in
theorem fdX5_77 : xFd RX5 77 5 12 (.object "PascalHouse$Scope") true := ⟨_, _, _, by decide, rfl, by decide, in_X5, q1119, rfl, tyX5_ok, nmX5, rfl, by decide⟩
set_option maxRecDepth 100000 in
theorem owX5_init_12 : xOwn YX5_init 5 12 := ⟨rfl, _, _, rfl, rfl⟩
set_option maxRecDepth 100000 in
theorem cdX5_116 : xCd RX5 116 7 4 := ⟨_, _, _, by decide, rfl, in_X7, tyX7_ok, q750, q751, q391⟩
set_option maxRecDepth 100000 in
theorem pd135 : (parseMethodDescriptor "(LPascalHouse$Scope;)V").map (fun s => s.parameters.length) = some 1 := by decide +kernel
set_option maxRecDepth 100000 in
theorem miX7_init : xMi YX7_init 1 := ⟨⟨q754, plainFor_of_name pnX7, mhX7, pd135⟩, q753, rfl, rfl, rfl⟩
set_option maxRecDepth 100000 in
theorem srX5_130 : ∃ t, xstrs[35]? = some (RX5, 130, t, 35) := ⟨_, rfl⟩
set_option maxRecDepth 100000 in
theorem pd136 : (parseMethodDescriptor "(Ljava/lang/String;ILPascalHouse$Type;I)V").map (fun s => s.parameters.length) = some 4 := by decide +kernel
set_option maxRecDepth 100000 in
theorem mvX5_there : xMv YX5_there 5 4 := ⟨_, _, _, by decide, rfl, ⟨q777, plainFor_of_name pnX5, mhX5, pd136⟩, q776, qs1⟩
set_option maxRecDepth 100000 in
theorem srX5_135 : ∃ t, xstrs[36]? = some (RX5, 135, t, 36) := ⟨_, rfl⟩
set_option maxRecDepth 100000 in
theorem srX5_136 : ∃ t, xstrs[37]? = some (RX5, 136, t, 37) := ⟨_, rfl⟩
set_option maxRecDepth 100000 in
theorem srX5_138 : ∃ t, xstrs[38]? = some (RX5, 138, t, 38) := ⟨_, rfl⟩
set_option maxRecDepth 100000 in
theorem srX5_140 : ∃ t, xstrs[39]? = some (RX5, 140, t, 39) := ⟨_, rfl⟩
set_option maxRecDepth 100000 in
theorem gfX5_115 : xFn RX5 115 7 0 (.object "java/util/ArrayList") true := ⟨_, _, _, _, by decide, rfl, by decide, in_X7, List.mem_filter.mpr ⟨q759, rfl⟩, rfl, tyX7_ok, nmX7, rfl, by decide⟩
set_option maxRecDepth 100000 in
theorem srX5_141 : ∃ t, xstrs[40]? = some (RX5, 141, t, 40) := ⟨_, rfl⟩
set_option maxRecDepth 100000 in
theorem pd137 : (parseMethodDescriptor "(Ljava/lang/String;LPascalHouse$Type;I)LPascalHouse$Item;").map (fun s => s.parameters.length) = some 3 := by decide +kernel
set_option maxRecDepth 100000 in
theorem mvX5_valueItem : xMv YX5_valueItem 5 3 := ⟨_, _, _, by decide, rfl, ⟨q1102, plainFor_of_name pnX5, mhX5, pd137⟩, q1101, qs5⟩
set_option maxRecDepth 100000 in
theorem srX5_147 : ∃ t, xstrs[41]? = some (RX5, 147, t, 41) := ⟨_, rfl⟩
set_option maxRecDepth 100000 in
theorem srX5_149 : ∃ t, xstrs[42]? = some (RX5, 149, t, 42) := ⟨_, rfl⟩
set_option maxRecDepth 100000 in
theorem srX5_151 : ∃ t, xstrs[43]? = some (RX5, 151, t, 43) := ⟨_, rfl⟩
set_option maxRecDepth 100000 in
theorem srX5_153 : ∃ t, xstrs[44]? = some (RX5, 153, t, 44) := ⟨_, rfl⟩
set_option maxRecDepth 100000 in
theorem cdX5_86 : xCd RX5 86 29 4 := ⟨_, _, _, by decide, rfl, in_J4, tyJ4_ok, q778, q610, q386⟩
set_option maxRecDepth 100000 in
theorem pnJ4 : plainName RJ4 = true := by decide +kernel
set_option maxRecDepth 100000 in
theorem mhJ4 : RJ4 ≠ "java/lang/invoke/MethodHandle" ∧ RJ4 ≠ "java/lang/invoke/VarHandle" := by decide +kernel
set_option maxRecDepth 100000 in
theorem miJ4_init : xMi YJ4_init 1 := ⟨⟨q613, plainFor_of_name pnJ4, mhJ4, pd0⟩, q612, rfl, rfl, rfl⟩
set_option maxRecDepth 100000 in
theorem pd138 : (parseMethodDescriptor "(C)Ljava/lang/StringBuilder;").map (fun s => s.parameters.length) = some 1 := by decide +kernel
set_option maxRecDepth 100000 in
theorem mvJ4_append : xMv YJ4_append 29 1 := ⟨_, _, _, by decide, rfl, ⟨q830, plainFor_of_name pnJ4, mhJ4, pd138⟩, q828, q829⟩
set_option maxRecDepth 100000 in
theorem cdX5_103 : xCd RX5 103 8 12 := ⟨_, _, _, by decide, rfl, in_X8, tyX8_ok, q902, q903, q398⟩
set_option maxRecDepth 100000 in
theorem mvJ4_toString : xMv YJ4_toString 29 0 := ⟨_, _, _, by decide, rfl, ⟨q907, plainFor_of_name pnJ4, mhJ4, pd107⟩, q905, q906⟩
set_option maxRecDepth 100000 in
theorem pnX8 : plainName RX8 = true := by decide +kernel
set_option maxRecDepth 100000 in
theorem mhX8 : RX8 ≠ "java/lang/invoke/MethodHandle" ∧ RX8 ≠ "java/lang/invoke/VarHandle" := by decide +kernel
set_option maxRecDepth 100000 in
theorem pd139 : (parseMethodDescriptor "(ILjava/lang/String;LPascalHouse$Type;)V").map (fun s => s.parameters.length) = some 3 := by decide +kernel
set_option maxRecDepth 100000 in
theorem miX8_init : xMi YX8_init 3 := ⟨⟨q963, plainFor_of_name pnX8, mhX8, pd139⟩, q962, rfl, rfl, rfl⟩
set_option maxRecDepth 100000 in
theorem gfX5_112 : xFn RX5 112 8 3 (.int) false := ⟨_, _, _, _, by decide, rfl, by decide, in_X8, List.mem_filter.mpr ⟨q973, rfl⟩, rfl, tyX8_ok, nmX8, rfl, by decide⟩
set_option maxRecDepth 100000 in
theorem mvJ4_setLength : xMv YJ4_setLength 29 1 := ⟨_, _, _, by decide, rfl, ⟨q1077, plainFor_of_name pnJ4, mhJ4, pd0⟩, q1075, q1076⟩
set_option maxRecDepth 100000 in
theorem cdX5_406 : xCd RX5 406 16 16 := ⟨_, _, _, by decide, rfl, in_X16, tyX16_ok, q2007, q2008, q412⟩
set_option maxRecDepth 100000 in
theorem mvX15_place : xMv YX15_place 15 0 := ⟨_, _, _, by decide, rfl, ⟨q2016, plainFor_of_name pnX15, mhX15, pd3⟩, q2014, q2015⟩
set_option maxRecDepth 100000 in
theorem pd140 : (parseMethodDescriptor "(Ljava/lang/String;ZI)V").map (fun s => s.parameters.length) = some 3 := by decide +kernel
set_option maxRecDepth 100000 in
theorem miX16_init : xMi YX16_init 3 := ⟨⟨q2019, plainFor_of_name pnX16, mhX16, pd140⟩, q2018, rfl, rfl, rfl⟩
set_option maxRecDepth 100000 in
theorem fdX5_411 : xFd RX5 411 5 24 (.object "PascalHouse$Routine") false := ⟨_, _, _, by decide, rfl, by decide, in_X5, q1130, rfl, tyX5_ok, nmX5, rfl, by decide⟩
set_option maxRecDepth 100000 in
theorem gfX5_415 : xFn RX5 415 16 5 (.object "PascalHouse$Scope") false := ⟨_, _, _, _, by decide, rfl, by decide, in_X16, List.mem_filter.mpr ⟨q2036, rfl⟩, rfl, tyX16_ok, nmX16, rfl, by decide⟩
set_option maxRecDepth 100000 in
theorem fdX5_416 : xFd RX5 416 5 15 (.object "PascalHouse$Routine") false := ⟨_, _, _, by decide, rfl, by decide, in_X5, q1122, rfl, tyX5_ok, nmX5, rfl, by decide⟩
set_option maxRecDepth 100000 in
theorem fdX5_296 : xFd RX5 296 5 14 (.object "PascalHouse$Block") false := ⟨_, _, _, by decide, rfl, by decide, in_X5, q1121, rfl, tyX5_ok, nmX5, rfl, by decide⟩
set_option maxRecDepth 100000 in
theorem fdX5_419 : xFd RX5 419 5 25 (.object "PascalHouse$Item") false := ⟨_, _, _, by decide, rfl, by decide, in_X5, q1132, rfl, tyX5_ok, nmX5, rfl, by decide⟩
set_option maxRecDepth 100000 in
theorem fdX5_423 : xFd RX5 423 5 26 (.object "PascalHouse$Item") false := ⟨_, _, _, by decide, rfl, by decide, in_X5, q1134, rfl, tyX5_ok, nmX5, rfl, by decide⟩
set_option maxRecDepth 100000 in
theorem fdX5_346 : xFd RX5 346 5 11 (.boolean) false := ⟨_, _, _, by decide, rfl, by decide, in_X5, q1118, rfl, tyX5_ok, nmX5, rfl, by decide⟩
set_option maxRecDepth 100000 in
theorem fdX5_429 : xFd RX5 429 5 27 (.int) false := ⟨_, _, _, by decide, rfl, by decide, in_X5, q1135, rfl, tyX5_ok, nmX5, rfl, by decide⟩
set_option maxRecDepth 100000 in
theorem fdX5_432 : xFd RX5 432 5 28 (.int) false := ⟨_, _, _, by decide, rfl, by decide, in_X5, q1136, rfl, tyX5_ok, nmX5, rfl, by decide⟩
set_option maxRecDepth 100000 in
theorem gfX5_251 : xFn RX5 251 15 2 (.object "PascalHouse$Tree") false := ⟨_, _, _, _, by decide, rfl, by decide, in_X15, List.mem_filter.mpr ⟨q1759, rfl⟩, rfl, tyX15_ok, nmX15, rfl, by decide⟩
set_option maxRecDepth 100000 in
theorem mvX15_kid : xMv YX15_kid 15 1 := ⟨_, _, _, by decide, rfl, ⟨q2132, plainFor_of_name pnX15, mhX15, pd105⟩, q2130, q2131⟩
set_option maxRecDepth 100000 in
theorem pd141 : (parseMethodDescriptor "(LPascalHouse$Tree;LPascalHouse$Routine;LPascalHouse$Tree;)V").map (fun s => s.parameters.length) = some 3 := by decide +kernel
set_option maxRecDepth 100000 in
theorem mvX5_block : xMv YX5_block 5 3 := ⟨_, _, _, by decide, rfl, ⟨q2136, plainFor_of_name pnX5, mhX5, pd141⟩, q2135, qs68⟩
set_option maxRecDepth 100000 in
theorem pd142 : (parseMethodDescriptor "(LPascalHouse$Tree;LPascalHouse$Tree;)V").map (fun s => s.parameters.length) = some 2 := by decide +kernel
set_option maxRecDepth 100000 in
theorem mvX5_heading : xMv YX5_heading 5 2 := ⟨_, _, _, by decide, rfl, ⟨q2095, plainFor_of_name pnX5, mhX5, pd142⟩, q2094, qs65⟩
set_option maxRecDepth 100000 in
theorem gfX5_307 : xFn RX5 307 15 4 (.object "PascalHouse$Tree") false := ⟨_, _, _, _, by decide, rfl, by decide, in_X15, List.mem_filter.mpr ⟨q1766, rfl⟩, rfl, tyX15_ok, nmX15, rfl, by decide⟩
set_option maxRecDepth 100000 in
theorem mvX5_fault : xMv YX5_fault 5 2 := ⟨_, _, _, by decide, rfl, ⟨q2090, plainFor_of_name pnX5, mhX5, pd18⟩, q2089, qs64⟩
set_option maxRecDepth 100000 in
theorem srX5_442 : ∃ t, xstrs[124]? = some (RX5, 442, t, 68) := ⟨_, rfl⟩
set_option maxRecDepth 100000 in
theorem srX5_443 : ∃ t, xstrs[125]? = some (RX5, 443, t, 69) := ⟨_, rfl⟩
set_option maxRecDepth 100000 in
theorem pd143 : (parseMethodDescriptor "(LPascalHouse$Item;LPascalHouse$Routine;)V").map (fun s => s.parameters.length) = some 2 := by decide +kernel
set_option maxRecDepth 100000 in
theorem mvX5_place : xMv YX5_place 5 2 := ⟨_, _, _, by decide, rfl, ⟨q2101, plainFor_of_name pnX5, mhX5, pd143⟩, q2100, qs66⟩
set_option maxRecDepth 100000 in
theorem pd144 : (parseMethodDescriptor "(LPascalHouse$Scope;LPascalHouse$Item;I)V").map (fun s => s.parameters.length) = some 3 := by decide +kernel
set_option maxRecDepth 100000 in
theorem mvX5_define : xMv YX5_define 5 3 := ⟨_, _, _, by decide, rfl, ⟨q2106, plainFor_of_name pnX5, mhX5, pd144⟩, q2105, qs67⟩
set_option maxRecDepth 100000 in
theorem gfX5_447 : xFn RX5 447 16 6 (.int) false := ⟨_, _, _, _, by decide, rfl, by decide, in_X16, List.mem_filter.mpr ⟨q2037, rfl⟩, rfl, tyX16_ok, nmX16, rfl, by decide⟩
set_option maxRecDepth 100000 in
theorem gfX5_450 : xFn RX5 450 8 4 (.int) false := ⟨_, _, _, _, by decide, rfl, by decide, in_X8, List.mem_filter.mpr ⟨q974, rfl⟩, rfl, tyX8_ok, nmX8, rfl, by decide⟩
set_option maxRecDepth 100000 in
theorem gfX5_451 : xFn RX5 451 16 8 (.int) false := ⟨_, _, _, _, by decide, rfl, by decide, in_X16, List.mem_filter.mpr ⟨q2042, rfl⟩, rfl, tyX16_ok, nmX16, rfl, by decide⟩
set_option maxRecDepth 100000 in
theorem gfX5_454 : xFn RX5 454 8 5 (.int) false := ⟨_, _, _, _, by decide, rfl, by decide, in_X8, List.mem_filter.mpr ⟨q977, rfl⟩, rfl, tyX8_ok, nmX8, rfl, by decide⟩
set_option maxRecDepth 100000 in
theorem gfX5_249 : xFn RX5 249 8 2 (.object "PascalHouse$Type") false := ⟨_, _, _, _, by decide, rfl, by decide, in_X8, List.mem_filter.mpr ⟨q972, rfl⟩, rfl, tyX8_ok, nmX8, rfl, by decide⟩
set_option maxRecDepth 100000 in
theorem gfX5_289 : xFn RX5 289 6 0 (.int) true := ⟨_, _, _, _, by decide, rfl, by decide, in_X6, List.mem_filter.mpr ⟨q696, rfl⟩, rfl, tyX6_ok, nmX6, rfl, by decide⟩
set_option maxRecDepth 100000 in
theorem gfX5_458 : xFn RX5 458 16 15 (.object "java/util/ArrayList") true := ⟨_, _, _, _, by decide, rfl, by decide, in_X16, List.mem_filter.mpr ⟨q2051, rfl⟩, rfl, tyX16_ok, nmX16, rfl, by decide⟩
set_option maxRecDepth 100000 in
theorem gfX5_155 : xFn RX5 155 8 1 (.object "java/lang/String") true := ⟨_, _, _, _, by decide, rfl, by decide, in_X8, List.mem_filter.mpr ⟨q969, rfl⟩, rfl, tyX8_ok, nmX8, rfl, by decide⟩
set_option maxRecDepth 100000 in
theorem cdX5_301 : xCd RX5 301 17 11 := ⟨_, _, _, by decide, rfl, in_X17, tyX17_ok, q2137, q2138, q414⟩
set_option maxRecDepth 100000 in
theorem pd145 : (parseMethodDescriptor "(LPascalHouse$Block;LPascalHouse$Routine;LPascalHouse$Scope;)V").map (fun s => s.parameters.length) = some 3 := by decide +kernel
set_option maxRecDepth 100000 in
theorem miX17_init : xMi YX17_init 3 := ⟨⟨q2141, plainFor_of_name pnX17, mhX17, pd145⟩, q2140, rfl, rfl, rfl⟩
set_option maxRecDepth 100000 in
theorem gfX5_202 : xFn RX5 202 15 1 (.object "PascalHouse$Symbol") true := ⟨_, _, _, _, by decide, rfl, by decide, in_X15, List.mem_filter.mpr ⟨q1756, rfl⟩, rfl, tyX15_ok, nmX15, rfl, by decide⟩
set_option maxRecDepth 100000 in
theorem gfX5_219 : xFn RX5 219 14 3 (.int) true := ⟨_, _, _, _, by decide, rfl, by decide, in_X14, List.mem_filter.mpr ⟨q1613, rfl⟩, rfl, tyX14_ok, nmX14, rfl, by decide⟩
set_option maxRecDepth 100000 in
theorem pd146 : (parseMethodDescriptor "(I)LPascalHouse$Label;").map (fun s => s.parameters.length) = some 1 := by decide +kernel
set_option maxRecDepth 100000 in
theorem mvX17_label : xMv YX17_label 17 1 := ⟨_, _, _, by decide, rfl, ⟨q2192, plainFor_of_name pnX17, mhX17, pd146⟩, q2190, q2191⟩
set_option maxRecDepth 100000 in
theorem gfX5_468 : xFn RX5 468 17 3 (.object "java/util/ArrayList") true := ⟨_, _, _, _, by decide, rfl, by decide, in_X17, List.mem_filter.mpr ⟨q2152, rfl⟩, rfl, tyX17_ok, nmX17, rfl, by decide⟩
set_option maxRecDepth 100000 in
theorem cdX5_471 : xCd RX5 471 18 5 := ⟨_, _, _, by decide, rfl, in_X18, tyX18_ok, q2196, q2197, q415⟩
set_option maxRecDepth 100000 in
theorem mvX2_label : xMv YX2_label 2 0 := ⟨_, _, _, by decide, rfl, ⟨q2201, plainFor_of_name pnX2, mhX2, pd3⟩, q2199, q2200⟩
set_option maxRecDepth 100000 in
theorem pnX18 : plainName RX18 = true := by decide +kernel
set_option maxRecDepth 100000 in
theorem mhX18 : RX18 ≠ "java/lang/invoke/MethodHandle" ∧ RX18 ≠ "java/lang/invoke/VarHandle" := by decide +kernel
set_option maxRecDepth 100000 in
theorem miX18_init : xMi YX18_init 2 := ⟨⟨q2207, plainFor_of_name pnX18, mhX18, pd8⟩, q2206, rfl, rfl, rfl⟩
set_option maxRecDepth 100000 in
theorem pd147 : (parseMethodDescriptor "(LPascalHouse$Tree;LPascalHouse$Scope;)V").map (fun s => s.parameters.length) = some 2 := by decide +kernel
set_option maxRecDepth 100000 in
theorem mvX5_types : xMv YX5_types 5 2 := ⟨_, _, _, by decide, rfl, ⟨q2270, plainFor_of_name pnX5, mhX5, pd147⟩, q2269, qs72⟩
set_option maxRecDepth 100000 in
theorem mvX5_constant : xMv YX5_constant 5 1 := ⟨_, _, _, by decide, rfl, ⟨q2232, plainFor_of_name pnX5, mhX5, pd13⟩, q2231, qs69⟩
set_option maxRecDepth 100000 in
theorem fdX5_216 : xFd RX5 216 5 16 (.object "PascalHouse$Type") false := ⟨_, _, _, by decide, rfl, by decide, in_X5, q1123, rfl, tyX5_ok, nmX5, rfl, by decide⟩
set_option maxRecDepth 100000 in
theorem fdX5_222 : xFd RX5 222 5 17 (.int) false := ⟨_, _, _, by decide, rfl, by decide, in_X5, q1124, rfl, tyX5_ok, nmX5, rfl, by decide⟩
set_option maxRecDepth 100000 in
theorem fdX5_231 : xFd RX5 231 5 18 (.double) false := ⟨_, _, _, by decide, rfl, by decide, in_X5, q1125, rfl, tyX5_ok, nmX5, rfl, by decide⟩
set_option maxRecDepth 100000 in
theorem gfX5_250 : xFn RX5 250 8 7 (.double) false := ⟨_, _, _, _, by decide, rfl, by decide, in_X8, List.mem_filter.mpr ⟨q979, rfl⟩, rfl, tyX8_ok, nmX8, rfl, by decide⟩
set_option maxRecDepth 100000 in
theorem pd148 : (parseMethodDescriptor "(LPascalHouse$Tree;LPascalHouse$Routine;)V").map (fun s => s.parameters.length) = some 2 := by decide +kernel
set_option maxRecDepth 100000 in
theorem mvX5_variables : xMv YX5_variables 5 2 := ⟨_, _, _, by decide, rfl, ⟨q2430, plainFor_of_name pnX5, mhX5, pd148⟩, q2429, qs89⟩
set_option maxRecDepth 100000 in
theorem mvX5_outside : xMv YX5_outside 5 2 := ⟨_, _, _, by decide, rfl, ⟨q2434, plainFor_of_name pnX5, mhX5, pd147⟩, q2433, qs90⟩
set_option maxRecDepth 100000 in
theorem mvX5_routine : xMv YX5_routine 5 2 := ⟨_, _, _, by decide, rfl, ⟨q2438, plainFor_of_name pnX5, mhX5, pd148⟩, q2437, qs91⟩
set_option maxRecDepth 100000 in
theorem gfX5_501 : xFn RX5 501 2 5 (.int) false := ⟨_, _, _, _, by decide, rfl, by decide, in_X2, List.mem_filter.mpr ⟨q541, rfl⟩, rfl, tyX2_ok, nmX2, rfl, by decide⟩
set_option maxRecDepth 100000 in
theorem gfX5_496 : xFn RX5 496 16 7 (.int) false := ⟨_, _, _, _, by decide, rfl, by decide, in_X16, List.mem_filter.mpr ⟨q2040, rfl⟩, rfl, tyX16_ok, nmX16, rfl, by decide⟩
set_option maxRecDepth 100000 in
theorem pd149 : (parseMethodDescriptor "(LPascalHouse$Tree;Z)V").map (fun s => s.parameters.length) = some 2 := by decide +kernel
set_option maxRecDepth 100000 in
theorem mvX5_statement : xMv YX5_statement 5 2 := ⟨_, _, _, by decide, rfl, ⟨q2493, plainFor_of_name pnX5, mhX5, pd149⟩, q2492, qs96⟩
set_option maxRecDepth 100000 in
theorem gfX5_199 : xFn RX5 199 8 0 (.int) true := ⟨_, _, _, _, by decide, rfl, by decide, in_X8, List.mem_filter.mpr ⟨q966, rfl⟩, rfl, tyX8_ok, nmX8, rfl, by decide⟩
set_option maxRecDepth 100000 in
theorem gfX5_492 : xFn RX5 492 8 11 (.object "PascalHouse$Routine") false := ⟨_, _, _, _, by decide, rfl, by decide, in_X8, List.mem_filter.mpr ⟨q983, rfl⟩, rfl, tyX8_ok, nmX8, rfl, by decide⟩
set_option maxRecDepth 100000 in
theorem gfX5_493 : xFn RX5 493 16 13 (.boolean) false := ⟨_, _, _, _, by decide, rfl, by decide, in_X16, List.mem_filter.mpr ⟨q2047, rfl⟩, rfl, tyX16_ok, nmX16, rfl, by decide⟩
set_option maxRecDepth 100000 in
theorem gfX5_499 : xFn RX5 499 16 2 (.int) true := ⟨_, _, _, _, by decide, rfl, by decide, in_X16, List.mem_filter.mpr ⟨q2029, rfl⟩, rfl, tyX16_ok, nmX16, rfl, by decide⟩
set_option maxRecDepth 100000 in
theorem pd150 : (parseMethodDescriptor "(IIIII)I").map (fun s => s.parameters.length) = some 5 := by decide +kernel
set_option maxRecDepth 100000 in
theorem mvX2_put : xMv YX2_put 2 5 := ⟨_, _, _, by decide, rfl, ⟨q2497, plainFor_of_name pnX2, mhX2, pd150⟩, q2495, q2496⟩
set_option maxRecDepth 100000 in
theorem pd151 : (parseMethodDescriptor "(LPascalHouse$Block;)V").map (fun s => s.parameters.length) = some 1 := by decide +kernel
set_option maxRecDepth 100000 in
theorem mvX5_leaps : xMv YX5_leaps 5 1 := ⟨_, _, _, by decide, rfl, ⟨q2801, plainFor_of_name pnX5, mhX5, pd151⟩, q2800, qs144⟩
set_option maxRecDepth 100000 in
theorem gfX5_514 : xFn RX5 514 17 0 (.object "PascalHouse$Block") true := ⟨_, _, _, _, by decide, rfl, by decide, in_X17, List.mem_filter.mpr ⟨q2146, rfl⟩, rfl, tyX17_ok, nmX17, rfl, by decide⟩
set_option maxRecDepth 100000 in
theorem gfX5_516 : xFn RX5 516 17 1 (.object "PascalHouse$Routine") true := ⟨_, _, _, _, by decide, rfl, by decide, in_X17, List.mem_filter.mpr ⟨q2148, rfl⟩, rfl, tyX17_ok, nmX17, rfl, by decide⟩
set_option maxRecDepth 100000 in
theorem gfX5_205 : xFn RX5 205 14 0 (.object "PascalHouse$Sort") true := ⟨_, _, _, _, by decide, rfl, by decide, in_X14, List.mem_filter.mpr ⟨q1604, rfl⟩, rfl, tyX14_ok, nmX14, rfl, by decide⟩
set_option maxRecDepth 100000 in
theorem pd152 : (parseMethodDescriptor "(LPascalHouse$Tree;I)LPascalHouse$Item;").map (fun s => s.parameters.length) = some 2 := by decide +kernel
set_option maxRecDepth 100000 in
theorem mvX5_findKind : xMv YX5_findKind 5 2 := ⟨_, _, _, by decide, rfl, ⟨q2245, plainFor_of_name pnX5, mhX5, pd152⟩, q2244, qs70⟩
set_option maxRecDepth 100000 in
theorem gfX5_237 : xFn RX5 237 14 1 (.object "java/lang/String") true := ⟨_, _, _, _, by decide, rfl, by decide, in_X14, List.mem_filter.mpr ⟨q1607, rfl⟩, rfl, tyX14_ok, nmX14, rfl, by decide⟩
set_option maxRecDepth 100000 in
theorem gfX5_228 : xFn RX5 228 14 4 (.double) true := ⟨_, _, _, _, by decide, rfl, by decide, in_X14, List.mem_filter.mpr ⟨q1615, rfl⟩, rfl, tyX14_ok, nmX14, rfl, by decide⟩
set_option maxRecDepth 100000 in
theorem mvX2_literal : xMv YX2_literal 2 1 := ⟨_, _, _, by decide, rfl, ⟨q2239, plainFor_of_name pnX2, mhX2, pd32⟩, q2237, q2238⟩
set_option maxRecDepth 100000 in
theorem mvX6_isNumber : xMv YX6_isNumber 6 0 := ⟨_, _, _, by decide, rfl, ⟨q2261, plainFor_of_name pnX6, mhX6, pd6⟩, q2259, q2260⟩
set_option maxRecDepth 100000 in
theorem srX5_259 : ∃ t, xstrs[126]? = some (RX5, 259, t, 54) := ⟨_, rfl⟩
set_option maxRecDepth 100000 in
theorem pd153 : (parseMethodDescriptor "(LPascalHouse$Tree;)LPascalHouse$Item;").map (fun s => s.parameters.length) = some 1 := by decide +kernel
set_option maxRecDepth 100000 in
theorem mvX5_find : xMv YX5_find 5 1 := ⟨_, _, _, by decide, rfl, ⟨q2249, plainFor_of_name pnX5, mhX5, pd153⟩, q2248, qs71⟩
set_option maxRecDepth 100000 in
theorem fdX5_166 : xFd RX5 166 5 19 (.object "PascalHouse$Field") false := ⟨_, _, _, by decide, rfl, by decide, in_X5, q1126, rfl, tyX5_ok, nmX5, rfl, by decide⟩
set_option maxRecDepth 100000 in
theorem gfX5_170 : xFn RX5 170 7 2 (.object "PascalHouse$Type") false := ⟨_, _, _, _, by decide, rfl, by decide, in_X7, List.mem_filter.mpr ⟨q762, rfl⟩, rfl, tyX7_ok, nmX7, rfl, by decide⟩
set_option maxRecDepth 100000 in
theorem pd154 : (parseMethodDescriptor "(Ljava/lang/String;)LPascalHouse$Field;").map (fun s => s.parameters.length) = some 1 := by decide +kernel
set_option maxRecDepth 100000 in
theorem mvX6_field : xMv YX6_field 6 1 := ⟨_, _, _, by decide, rfl, ⟨q2253, plainFor_of_name pnX6, mhX6, pd154⟩, q2251, q2252⟩
set_option maxRecDepth 100000 in
theorem fdX5_181 : xFd RX5 181 5 20 (.object "PascalHouse$Scope") false := ⟨_, _, _, by decide, rfl, by decide, in_X5, q1127, rfl, tyX5_ok, nmX5, rfl, by decide⟩
set_option maxRecDepth 100000 in
theorem gfX5_184 : xFn RX5 184 20 1 (.object "PascalHouse$Type") true := ⟨_, _, _, _, by decide, rfl, by decide, in_X20, List.mem_filter.mpr ⟨q2374, rfl⟩, rfl, tyX20_ok, nmX20, rfl, by decide⟩
set_option maxRecDepth 100000 in
theorem gfX5_189 : xFn RX5 189 7 1 (.object "PascalHouse$Scope") true := ⟨_, _, _, _, by decide, rfl, by decide, in_X7, List.mem_filter.mpr ⟨q761, rfl⟩, rfl, tyX7_ok, nmX7, rfl, by decide⟩
set_option maxRecDepth 100000 in
theorem pd155 : (parseMethodDescriptor "(LPascalHouse$Tree;)LPascalHouse$Type;").map (fun s => s.parameters.length) = some 1 := by decide +kernel
set_option maxRecDepth 100000 in
theorem mvX5_typeOf : xMv YX5_typeOf 5 1 := ⟨_, _, _, by decide, rfl, ⟨q2275, plainFor_of_name pnX5, mhX5, pd155⟩, q2274, qs73⟩
set_option maxRecDepth 100000 in
theorem mvX5_namedType : xMv YX5_namedType 5 1 := ⟨_, _, _, by decide, rfl, ⟨q2279, plainFor_of_name pnX5, mhX5, pd155⟩, q2278, qs74⟩
set_option maxRecDepth 100000 in
theorem pd156 : (parseMethodDescriptor "(LPascalHouse$Type;LPascalHouse$Type;LPascalHouse$Tree;)V").map (fun s => s.parameters.length) = some 3 := by decide +kernel
set_option maxRecDepth 100000 in
theorem mvX5_pointsAt : xMv YX5_pointsAt 5 3 := ⟨_, _, _, by decide, rfl, ⟨q2425, plainFor_of_name pnX5, mhX5, pd156⟩, q2424, qs88⟩
set_option maxRecDepth 100000 in
theorem gfX5_264 : xFn RX5 264 15 0 (.int) true := ⟨_, _, _, _, by decide, rfl, by decide, in_X15, List.mem_filter.mpr ⟨q1754, rfl⟩, rfl, tyX15_ok, nmX15, rfl, by decide⟩
set_option maxRecDepth 100000 in
theorem mvX5_enumeration : xMv YX5_enumeration 5 1 := ⟨_, _, _, by decide, rfl, ⟨q2283, plainFor_of_name pnX5, mhX5, pd155⟩, q2282, qs75⟩
set_option maxRecDepth 100000 in
theorem mvX5_range : xMv YX5_range 5 1 := ⟨_, _, _, by decide, rfl, ⟨q2287, plainFor_of_name pnX5, mhX5, pd155⟩, q2286, qs76⟩
set_option maxRecDepth 100000 in
theorem mvX5_array : xMv YX5_array 5 1 := ⟨_, _, _, by decide, rfl, ⟨q2295, plainFor_of_name pnX5, mhX5, pd155⟩, q2294, qs77⟩
set_option maxRecDepth 100000 in
theorem mvX5_record : xMv YX5_record 5 1 := ⟨_, _, _, by decide, rfl, ⟨q2309, plainFor_of_name pnX5, mhX5, pd155⟩, q2308, qs80⟩
set_option maxRecDepth 100000 in
theorem mvX5_set : xMv YX5_set 5 1 := ⟨_, _, _, by decide, rfl, ⟨q2417, plainFor_of_name pnX5, mhX5, pd155⟩, q2416, qs86⟩
set_option maxRecDepth 100000 in
theorem gfX5_286 : xFn RX5 286 6 2 (.object "PascalHouse$Type") false := ⟨_, _, _, _, by decide, rfl, by decide, in_X6, List.mem_filter.mpr ⟨q701, rfl⟩, rfl, tyX6_ok, nmX6, rfl, by decide⟩
set_option maxRecDepth 100000 in
theorem mvX5_pointer : xMv YX5_pointer 5 1 := ⟨_, _, _, by decide, rfl, ⟨q2421, plainFor_of_name pnX5, mhX5, pd155⟩, q2420, qs87⟩
set_option maxRecDepth 100000 in
theorem gfX5_293 : xFn RX5 293 15 5 (.int) false := ⟨_, _, _, _, by decide, rfl, by decide, in_X15, List.mem_filter.mpr ⟨q1768, rfl⟩, rfl, tyX15_ok, nmX15, rfl, by decide⟩
set_option maxRecDepth 100000 in
theorem gfX5_300 : xFn RX5 300 17 2 (.object "PascalHouse$Scope") true := ⟨_, _, _, _, by decide, rfl, by decide, in_X17, List.mem_filter.mpr ⟨q2150, rfl⟩, rfl, tyX17_ok, nmX17, rfl, by decide⟩
set_option maxRecDepth 100000 in
theorem gfX5_321 : xFn RX5 321 6 1 (.object "PascalHouse$Type") false := ⟨_, _, _, _, by decide, rfl, by decide, in_X6, List.mem_filter.mpr ⟨q698, rfl⟩, rfl, tyX6_ok, nmX6, rfl, by decide⟩
set_option maxRecDepth 100000 in
theorem pd157 : (parseMethodDescriptor "(LPascalHouse$Tree;)I").map (fun s => s.parameters.length) = some 1 := by decide +kernel
set_option maxRecDepth 100000 in
theorem mvX5_firstOfSimple : xMv YX5_firstOfSimple 5 1 := ⟨_, _, _, by decide, rfl, ⟨q2299, plainFor_of_name pnX5, mhX5, pd157⟩, q2298, qs78⟩
set_option maxRecDepth 100000 in
theorem gfX5_335 : xFn RX5 335 6 6 (.int) false := ⟨_, _, _, _, by decide, rfl, by decide, in_X6, List.mem_filter.mpr ⟨q708, rfl⟩, rfl, tyX6_ok, nmX6, rfl, by decide⟩
set_option maxRecDepth 100000 in
theorem gfX5_338 : xFn RX5 338 6 5 (.int) false := ⟨_, _, _, _, by decide, rfl, by decide, in_X6, List.mem_filter.mpr ⟨q706, rfl⟩, rfl, tyX6_ok, nmX6, rfl, by decide⟩
set_option maxRecDepth 100000 in
theorem gfX5_343 : xFn RX5 343 6 3 (.object "PascalHouse$Type") false := ⟨_, _, _, _, by decide, rfl, by decide, in_X6, List.mem_filter.mpr ⟨q703, rfl⟩, rfl, tyX6_ok, nmX6, rfl, by decide⟩
set_option maxRecDepth 100000 in
theorem mvX5_firstOfConstant : xMv YX5_firstOfConstant 5 1 := ⟨_, _, _, by decide, rfl, ⟨q2303, plainFor_of_name pnX5, mhX5, pd157⟩, q2302, qs79⟩
set_option maxRecDepth 100000 in
theorem pd158 : (parseMethodDescriptor "(LPascalHouse$Type;LPascalHouse$Tree;LPascalHouse$Part;I)V").map (fun s => s.parameters.length) = some 4 := by decide +kernel
set_option maxRecDepth 100000 in
theorem mvX5_fields : xMv YX5_fields 5 4 := ⟨_, _, _, by decide, rfl, ⟨q2313, plainFor_of_name pnX5, mhX5, pd158⟩, q2312, qs81⟩
set_option maxRecDepth 100000 in
theorem mvX5_variants : xMv YX5_variants 5 4 := ⟨_, _, _, by decide, rfl, ⟨q2317, plainFor_of_name pnX5, mhX5, pd158⟩, q2316, qs82⟩
set_option maxRecDepth 100000 in
theorem pd159 : (parseMethodDescriptor "(LPascalHouse$Type;LPascalHouse$Tree;LPascalHouse$Type;LPascalHouse$Part;I)LPascalHouse$Field;").map (fun s => s.parameters.length) = some 5 := by decide +kernel
set_option maxRecDepth 100000 in
theorem mvX5_field : xMv YX5_field 5 5 := ⟨_, _, _, by decide, rfl, ⟨q2364, plainFor_of_name pnX5, mhX5, pd159⟩, q2363, qs83⟩
set_option maxRecDepth 100000 in
theorem cdX5_374 : xCd RX5 374 19 10 := ⟨_, _, _, by decide, rfl, in_X19, tyX19_ok, q2318, q2319, q416⟩
set_option maxRecDepth 100000 in
theorem miX19_init : xMi YX19_init 3 := ⟨⟨q2322, plainFor_of_name pnX19, mhX19, pd124⟩, q2321, rfl, rfl, rfl⟩
set_option maxRecDepth 100000 in
theorem gfX5_379 : xFn RX5 379 19 6 (.object "PascalHouse$Type") false := ⟨_, _, _, _, by decide, rfl, by decide, in_X19, List.mem_filter.mpr ⟨q2336, rfl⟩, rfl, tyX19_ok, nmX19, rfl, by decide⟩
set_option maxRecDepth 100000 in
theorem gfX5_380 : xFn RX5 380 19 5 (.boolean) false := ⟨_, _, _, _, by decide, rfl, by decide, in_X19, List.mem_filter.mpr ⟨q2335, rfl⟩, rfl, tyX19_ok, nmX19, rfl, by decide⟩
set_option maxRecDepth 100000 in
theorem pd160 : (parseMethodDescriptor "(LPascalHouse$Type;I)V").map (fun s => s.parameters.length) = some 2 := by decide +kernel
set_option maxRecDepth 100000 in
theorem mvX5_grow : xMv YX5_grow 5 2 := ⟨_, _, _, by decide, rfl, ⟨q2398, plainFor_of_name pnX5, mhX5, pd160⟩, q2397, qs84⟩
set_option maxRecDepth 100000 in
theorem gfX5_383 : xFn RX5 383 20 5 (.object "PascalHouse$Part") false := ⟨_, _, _, _, by decide, rfl, by decide, in_X20, List.mem_filter.mpr ⟨q2381, rfl⟩, rfl, tyX20_ok, nmX20, rfl, by decide⟩
set_option maxRecDepth 100000 in
theorem gfX5_387 : xFn RX5 387 19 3 (.int) false := ⟨_, _, _, _, by decide, rfl, by decide, in_X19, List.mem_filter.mpr ⟨q2331, rfl⟩, rfl, tyX19_ok, nmX19, rfl, by decide⟩
set_option maxRecDepth 100000 in
theorem gfX5_390 : xFn RX5 390 2 11 (.object "java/util/ArrayList") true := ⟨_, _, _, _, by decide, rfl, by decide, in_X2, List.mem_filter.mpr ⟨q555, rfl⟩, rfl, tyX2_ok, nmX2, rfl, by decide⟩
set_option maxRecDepth 100000 in
theorem gfX5_403 : xFn RX5 403 19 4 (.int) false := ⟨_, _, _, _, by decide, rfl, by decide, in_X19, List.mem_filter.mpr ⟨q2333, rfl⟩, rfl, tyX19_ok, nmX19, rfl, by decide⟩
set_option maxRecDepth 100000 in
theorem mvX19_add : xMv YX19_add 19 2 := ⟨_, _, _, by decide, rfl, ⟨q2412, plainFor_of_name pnX19, mhX19, pd8⟩, q2410, q2411⟩
set_option maxRecDepth 100000 in
theorem cdX5_185 : xCd RX5 185 20 6 := ⟨_, _, _, by decide, rfl, in_X20, tyX20_ok, q2365, q2366, q417⟩
set_option maxRecDepth 100000 in
theorem pnX20 : plainName RX20 = true := by decide +kernel
set_option maxRecDepth 100000 in
theorem mhX20 : RX20 ≠ "java/lang/invoke/MethodHandle" ∧ RX20 ≠ "java/lang/invoke/VarHandle" := by decide +kernel
set_option maxRecDepth 100000 in
theorem pd161 : (parseMethodDescriptor "(Ljava/lang/String;LPascalHouse$Type;ILPascalHouse$Part;I)V").map (fun s => s.parameters.length) = some 5 := by decide +kernel
set_option maxRecDepth 100000 in
theorem miX20_init : xMi YX20_init 5 := ⟨⟨q2369, plainFor_of_name pnX20, mhX20, pd161⟩, q2368, rfl, rfl, rfl⟩
set_option maxRecDepth 100000 in
theorem gfX5_367 : xFn RX5 367 6 8 (.object "java/util/ArrayList") true := ⟨_, _, _, _, by decide, rfl, by decide, in_X6, List.mem_filter.mpr ⟨q714, rfl⟩, rfl, tyX6_ok, nmX6, rfl, by decide⟩
set_option maxRecDepth 100000 in
theorem gfX5_517 : xFn RX5 517 8 9 (.boolean) false := ⟨_, _, _, _, by decide, rfl, by decide, in_X8, List.mem_filter.mpr ⟨q981, rfl⟩, rfl, tyX8_ok, nmX8, rfl, by decide⟩
set_option maxRecDepth 100000 in
theorem gfX5_519 : xFn RX5 519 15 3 (.object "PascalHouse$Tree") false := ⟨_, _, _, _, by decide, rfl, by decide, in_X15, List.mem_filter.mpr ⟨q1763, rfl⟩, rfl, tyX15_ok, nmX15, rfl, by decide⟩
set_option maxRecDepth 100000 in
theorem gfX5_522 : xFn RX5 522 16 12 (.boolean) false := ⟨_, _, _, _, by decide, rfl, by decide, in_X16, List.mem_filter.mpr ⟨q2046, rfl⟩, rfl, tyX16_ok, nmX16, rfl, by decide⟩
set_option maxRecDepth 100000 in
theorem gfX5_525 : xFn RX5 525 16 1 (.boolean) true := ⟨_, _, _, _, by decide, rfl, by decide, in_X16, List.mem_filter.mpr ⟨q2025, rfl⟩, rfl, tyX16_ok, nmX16, rfl, by decide⟩
set_option maxRecDepth 100000 in
theorem gfX5_528 : xFn RX5 528 2 10 (.object "java/util/ArrayList") true := ⟨_, _, _, _, by decide, rfl, by decide, in_X2, List.mem_filter.mpr ⟨q552, rfl⟩, rfl, tyX2_ok, nmX2, rfl, by decide⟩
set_option maxRecDepth 100000 in
theorem gfX5_531 : xFn RX5 531 16 9 (.int) false := ⟨_, _, _, _, by decide, rfl, by decide, in_X16, List.mem_filter.mpr ⟨q2043, rfl⟩, rfl, tyX16_ok, nmX16, rfl, by decide⟩
set_option maxRecDepth 100000 in
theorem gfX5_540 : xFn RX5 540 16 14 (.boolean) false := ⟨_, _, _, _, by decide, rfl, by decide, in_X16, List.mem_filter.mpr ⟨q2048, rfl⟩, rfl, tyX16_ok, nmX16, rfl, by decide⟩
set_option maxRecDepth 100000 in
theorem mvX5_parameters : xMv YX5_parameters 5 2 := ⟨_, _, _, by decide, rfl, ⟨q2442, plainFor_of_name pnX5, mhX5, pd148⟩, q2441, qs92⟩
set_option maxRecDepth 100000 in
theorem mvX5_result : xMv YX5_result 5 1 := ⟨_, _, _, by decide, rfl, ⟨q2450, plainFor_of_name pnX5, mhX5, pd155⟩, q2449, qs94⟩
set_option maxRecDepth 100000 in
theorem gfX5_538 : xFn RX5 538 16 4 (.object "PascalHouse$Type") false := ⟨_, _, _, _, by decide, rfl, by decide, in_X16, List.mem_filter.mpr ⟨q2034, rfl⟩, rfl, tyX16_ok, nmX16, rfl, by decide⟩
set_option maxRecDepth 100000 in
theorem mvX5_formal : xMv YX5_formal 5 2 := ⟨_, _, _, by decide, rfl, ⟨q2446, plainFor_of_name pnX5, mhX5, pd148⟩, q2445, qs93⟩
set_option maxRecDepth 100000 in
theorem cdX5_548 : xCd RX5 548 21 5 := ⟨_, _, _, by decide, rfl, in_X21, tyX21_ok, q2455, q2456, q418⟩
set_option maxRecDepth 100000 in
theorem pnX21 : plainName RX21 = true := by decide +kernel
set_option maxRecDepth 100000 in
theorem mhX21 : RX21 ≠ "java/lang/invoke/MethodHandle" ∧ RX21 ≠ "java/lang/invoke/VarHandle" := by decide +kernel
set_option maxRecDepth 100000 in
theorem pd162 : (parseMethodDescriptor "(ILPascalHouse$Type;LPascalHouse$Routine;)V").map (fun s => s.parameters.length) = some 3 := by decide +kernel
set_option maxRecDepth 100000 in
theorem miX21_init : xMi YX21_init 3 := ⟨⟨q2459, plainFor_of_name pnX21, mhX21, pd162⟩, q2458, rfl, rfl, rfl⟩
set_option maxRecDepth 100000 in
theorem gfX5_553 : xFn RX5 553 8 8 (.boolean) false := ⟨_, _, _, _, by decide, rfl, by decide, in_X8, List.mem_filter.mpr ⟨q980, rfl⟩, rfl, tyX8_ok, nmX8, rfl, by decide⟩
set_option maxRecDepth 100000 in
theorem pd163 : (parseMethodDescriptor "(LPascalHouse$Routine;LPascalHouse$Parameter;LPascalHouse$Item;LPascalHouse$Tree;I)V").map (fun s => s.parameters.length) = some 5 := by decide +kernel
set_option maxRecDepth 100000 in
theorem mvX5_parameter : xMv YX5_parameter 5 5 := ⟨_, _, _, by decide, rfl, ⟨q2489, plainFor_of_name pnX5, mhX5, pd163⟩, q2488, qs95⟩
set_option maxRecDepth 100000 in
theorem gfX5_567 : xFn RX5 567 16 10 (.int) false := ⟨_, _, _, _, by decide, rfl, by decide, in_X16, List.mem_filter.mpr ⟨q2044, rfl⟩, rfl, tyX16_ok, nmX16, rfl, by decide⟩
set_option maxRecDepth 100000 in
theorem gfX5_568 : xFn RX5 568 16 11 (.int) false := ⟨_, _, _, _, by decide, rfl, by decide, in_X16, List.mem_filter.mpr ⟨q2045, rfl⟩, rfl, tyX16_ok, nmX16, rfl, by decide⟩
set_option maxRecDepth 100000 in
theorem mvX6_isSimple : xMv YX6_isSimple 6 0 := ⟨_, _, _, by decide, rfl, ⟨q2454, plainFor_of_name pnX6, mhX6, pd6⟩, q2452, q2453⟩
set_option maxRecDepth 100000 in
theorem gfX5_560 : xFn RX5 560 16 3 (.object "java/util/ArrayList") true := ⟨_, _, _, _, by decide, rfl, by decide, in_X16, List.mem_filter.mpr ⟨q2032, rfl⟩, rfl, tyX16_ok, nmX16, rfl, by decide⟩
set_option maxRecDepth 100000 in
theorem gfX5_562 : xFn RX5 562 21 3 (.object "PascalHouse$Item") false := ⟨_, _, _, _, by decide, rfl, by decide, in_X21, List.mem_filter.mpr ⟨q2472, rfl⟩, rfl, tyX21_ok, nmX21, rfl, by decide⟩
set_option maxRecDepth 100000 in
theorem gfX5_565 : xFn RX5 565 21 4 (.int) false := ⟨_, _, _, _, by decide, rfl, by decide, in_X21, List.mem_filter.mpr ⟨q2474, rfl⟩, rfl, tyX21_ok, nmX21, rfl, by decide⟩
set_option maxRecDepth 100000 in
theorem mvX5_row : xMv YX5_row 5 2 := ⟨_, _, _, by decide, rfl, ⟨q2501, plainFor_of_name pnX5, mhX5, pd149⟩, q2500, qs97⟩
set_option maxRecDepth 100000 in
theorem gfX5_587 : xFn RX5 587 17 10 (.int) false := ⟨_, _, _, _, by decide, rfl, by decide, in_X17, List.mem_filter.mpr ⟨q2165, rfl⟩, rfl, tyX17_ok, nmX17, rfl, by decide⟩
set_option maxRecDepth 100000 in
theorem gfX5_603 : xFn RX5 603 17 5 (.array .int) true := ⟨_, _, _, _, by decide, rfl, by decide, in_X17, List.mem_filter.mpr ⟨q2156, rfl⟩, rfl, tyX17_ok, nmX17, rfl, by decide⟩
set_option maxRecDepth 100000 in
theorem gfX5_604 : xFn RX5 604 17 7 (.int) false := ⟨_, _, _, _, by decide, rfl, by decide, in_X17, List.mem_filter.mpr ⟨q2160, rfl⟩, rfl, tyX17_ok, nmX17, rfl, by decide⟩
set_option maxRecDepth 100000 in
theorem pd164 : (parseMethodDescriptor "(LPascalHouse$Tree;I)V").map (fun s => s.parameters.length) = some 2 := by decide +kernel
set_option maxRecDepth 100000 in
theorem mvX5_statementIn : xMv YX5_statementIn 5 2 := ⟨_, _, _, by decide, rfl, ⟨q2505, plainFor_of_name pnX5, mhX5, pd164⟩, q2504, qs98⟩
set_option maxRecDepth 100000 in
theorem mvX5_plain : xMv YX5_plain 5 1 := ⟨_, _, _, by decide, rfl, ⟨q2509, plainFor_of_name pnX5, mhX5, pd13⟩, q2508, qs99⟩
set_option maxRecDepth 100000 in
theorem gfX5_578 : xFn RX5 578 18 2 (.boolean) false := ⟨_, _, _, _, by decide, rfl, by decide, in_X18, List.mem_filter.mpr ⟨q2213, rfl⟩, rfl, tyX18_ok, nmX18, rfl, by decide⟩
set_option maxRecDepth 100000 in
theorem gfX5_584 : xFn RX5 584 18 3 (.int) false := ⟨_, _, _, _, by decide, rfl, by decide, in_X18, List.mem_filter.mpr ⟨q2215, rfl⟩, rfl, tyX18_ok, nmX18, rfl, by decide⟩
set_option maxRecDepth 100000 in
theorem gfX5_594 : xFn RX5 594 18 4 (.int) false := ⟨_, _, _, _, by decide, rfl, by decide, in_X18, List.mem_filter.mpr ⟨q2217, rfl⟩, rfl, tyX18_ok, nmX18, rfl, by decide⟩
set_option maxRecDepth 100000 in
theorem gfX5_616 : xFn RX5 616 2 15 (.array .int) false := ⟨_, _, _, _, by decide, rfl, by decide, in_X2, List.mem_filter.mpr ⟨q564, rfl⟩, rfl, tyX2_ok, nmX2, rfl, by decide⟩
set_option maxRecDepth 100000 in
theorem gfX5_618 : xFn RX5 618 18 1 (.int) true := ⟨_, _, _, _, by decide, rfl, by decide, in_X18, List.mem_filter.mpr ⟨q2212, rfl⟩, rfl, tyX18_ok, nmX18, rfl, by decide⟩
set_option maxRecDepth 100000 in
theorem gfX5_620 : xFn RX5 620 17 6 (.array .int) true := ⟨_, _, _, _, by decide, rfl, by decide, in_X17, List.mem_filter.mpr ⟨q2158, rfl⟩, rfl, tyX17_ok, nmX17, rfl, by decide⟩
set_option maxRecDepth 100000 in
theorem gfX5_621 : xFn RX5 621 17 8 (.int) false := ⟨_, _, _, _, by decide, rfl, by decide, in_X17, List.mem_filter.mpr ⟨q2162, rfl⟩, rfl, tyX17_ok, nmX17, rfl, by decide⟩
set_option maxRecDepth 100000 in
theorem mvX5_firstOf : xMv YX5_firstOf 5 1 := ⟨_, _, _, by decide, rfl, ⟨q2513, plainFor_of_name pnX5, mhX5, pd157⟩, q2512, qs100⟩
set_option maxRecDepth 100000 in
theorem mvX5_branch : xMv YX5_branch 5 1 := ⟨_, _, _, by decide, rfl, ⟨q2517, plainFor_of_name pnX5, mhX5, pd13⟩, q2516, qs101⟩
set_option maxRecDepth 100000 in
theorem mvX5_cases : xMv YX5_cases 5 1 := ⟨_, _, _, by decide, rfl, ⟨q2707, plainFor_of_name pnX5, mhX5, pd13⟩, q2706, qs131⟩
set_option maxRecDepth 100000 in
theorem mvX5_calls : xMv YX5_calls 5 1 := ⟨_, _, _, by decide, rfl, ⟨q2777, plainFor_of_name pnX5, mhX5, pd13⟩, q2776, qs139⟩
set_option maxRecDepth 100000 in
theorem mvX5_loop : xMv YX5_loop 5 1 := ⟨_, _, _, by decide, rfl, ⟨q2715, plainFor_of_name pnX5, mhX5, pd13⟩, q2714, qs132⟩
set_option maxRecDepth 100000 in
theorem mvX5_truth : xMv YX5_truth 5 1 := ⟨_, _, _, by decide, rfl, ⟨q2521, plainFor_of_name pnX5, mhX5, pd13⟩, q2520, qs102⟩
set_option maxRecDepth 100000 in
theorem mvX5_counts : xMv YX5_counts 5 1 := ⟨_, _, _, by decide, rfl, ⟨q2719, plainFor_of_name pnX5, mhX5, pd13⟩, q2718, qs133⟩
set_option maxRecDepth 100000 in
theorem mvX5_lays : xMv YX5_lays 5 1 := ⟨_, _, _, by decide, rfl, ⟨q2723, plainFor_of_name pnX5, mhX5, pd13⟩, q2722, qs134⟩
set_option maxRecDepth 100000 in
theorem mvX5_leaves : xMv YX5_leaves 5 1 := ⟨_, _, _, by decide, rfl, ⟨q2727, plainFor_of_name pnX5, mhX5, pd13⟩, q2726, qs135⟩
set_option maxRecDepth 100000 in
theorem mvX5_assigns : xMv YX5_assigns 5 1 := ⟨_, _, _, by decide, rfl, ⟨q2765, plainFor_of_name pnX5, mhX5, pd13⟩, q2764, qs136⟩
set_option maxRecDepth 100000 in
theorem mvX5_inner : xMv YX5_inner 5 1 := ⟨_, _, _, by decide, rfl, ⟨q2699, plainFor_of_name pnX5, mhX5, pd13⟩, q2698, qs130⟩
set_option maxRecDepth 100000 in
theorem mvX2_go : xMv YX2_go 2 2 := ⟨_, _, _, by decide, rfl, ⟨q2703, plainFor_of_name pnX2, mhX2, pd8⟩, q2701, q2702⟩
set_option maxRecDepth 100000 in
theorem mvX5_expression : xMv YX5_expression 5 1 := ⟨_, _, _, by decide, rfl, ⟨q2525, plainFor_of_name pnX5, mhX5, pd155⟩, q2524, qs103⟩
set_option maxRecDepth 100000 in
theorem mvX2_real : xMv YX2_real 2 1 := ⟨_, _, _, by decide, rfl, ⟨q2529, plainFor_of_name pnX2, mhX2, pd96⟩, q2527, q2528⟩
set_option maxRecDepth 100000 in
theorem pd165 : (parseMethodDescriptor "(Ljava/lang/String;)LPascalHouse$Type;").map (fun s => s.parameters.length) = some 1 := by decide +kernel
set_option maxRecDepth 100000 in
theorem mvX5_string : xMv YX5_string 5 1 := ⟨_, _, _, by decide, rfl, ⟨q2533, plainFor_of_name pnX5, mhX5, pd165⟩, q2532, qs104⟩
set_option maxRecDepth 100000 in
theorem mvX5_made : xMv YX5_made 5 1 := ⟨_, _, _, by decide, rfl, ⟨q2537, plainFor_of_name pnX5, mhX5, pd155⟩, q2536, qs105⟩
set_option maxRecDepth 100000 in
theorem mvX5_compared : xMv YX5_compared 5 1 := ⟨_, _, _, by decide, rfl, ⟨q2684, plainFor_of_name pnX5, mhX5, pd155⟩, q2683, qs129⟩
set_option maxRecDepth 100000 in
theorem mvX5_applied : xMv YX5_applied 5 1 := ⟨_, _, _, by decide, rfl, ⟨q2552, plainFor_of_name pnX5, mhX5, pd155⟩, q2551, qs107⟩
set_option maxRecDepth 100000 in
theorem mvX5_named : xMv YX5_named 5 1 := ⟨_, _, _, by decide, rfl, ⟨q2648, plainFor_of_name pnX5, mhX5, pd155⟩, q2647, qs122⟩
set_option maxRecDepth 100000 in
theorem mvX5_sum : xMv YX5_sum 5 1 := ⟨_, _, _, by decide, rfl, ⟨q2660, plainFor_of_name pnX5, mhX5, pd155⟩, q2659, qs125⟩
set_option maxRecDepth 100000 in
theorem mvX5_signed : xMv YX5_signed 5 1 := ⟨_, _, _, by decide, rfl, ⟨q2656, plainFor_of_name pnX5, mhX5, pd155⟩, q2655, qs124⟩
set_option maxRecDepth 100000 in
theorem mvX6_setOf : xMv YX6_setOf 6 0 := ⟨_, _, _, by decide, rfl, ⟨q2545, plainFor_of_name pnX6, mhX6, pd112⟩, q2543, q2544⟩
set_option maxRecDepth 100000 in
theorem pd166 : (parseMethodDescriptor "(LPascalHouse$Tree;LPascalHouse$Type;)LPascalHouse$Type;").map (fun s => s.parameters.length) = some 2 := by decide +kernel
set_option maxRecDepth 100000 in
theorem mvX5_part : xMv YX5_part 5 2 := ⟨_, _, _, by decide, rfl, ⟨q2541, plainFor_of_name pnX5, mhX5, pd166⟩, q2540, qs106⟩
set_option maxRecDepth 100000 in
theorem pd167 : (parseMethodDescriptor "(LPascalHouse$Item;LPascalHouse$Tree;II)LPascalHouse$Type;").map (fun s => s.parameters.length) = some 4 := by decide +kernel
set_option maxRecDepth 100000 in
theorem mvX5_function : xMv YX5_function 5 4 := ⟨_, _, _, by decide, rfl, ⟨q2556, plainFor_of_name pnX5, mhX5, pd167⟩, q2555, qs108⟩
set_option maxRecDepth 100000 in
theorem pd168 : (parseMethodDescriptor "(LPascalHouse$Routine;LPascalHouse$Tree;II)V").map (fun s => s.parameters.length) = some 4 := by decide +kernel
set_option maxRecDepth 100000 in
theorem mvX5_call : xMv YX5_call 5 4 := ⟨_, _, _, by decide, rfl, ⟨q2560, plainFor_of_name pnX5, mhX5, pd168⟩, q2559, qs109⟩
set_option maxRecDepth 100000 in
theorem msX5_own : xMs YX5_own 1 := ⟨⟨q2628, plainFor_of_name pnX5, mhX5, pd113⟩, q2627, q389⟩
set_option maxRecDepth 100000 in
theorem mvX5_file : xMv YX5_file 5 1 := ⟨_, _, _, by decide, rfl, ⟨q2636, plainFor_of_name pnX5, mhX5, pd153⟩, q2635, qs120⟩
set_option maxRecDepth 100000 in
theorem pd169 : (parseMethodDescriptor "(ZI)LPascalHouse$Item;").map (fun s => s.parameters.length) = some 2 := by decide +kernel
set_option maxRecDepth 100000 in
theorem mvX5_standard : xMv YX5_standard 5 2 := ⟨_, _, _, by decide, rfl, ⟨q2632, plainFor_of_name pnX5, mhX5, pd169⟩, q2631, qs119⟩
set_option maxRecDepth 100000 in
theorem pd170 : (parseMethodDescriptor "(ILPascalHouse$Type;I)LPascalHouse$Type;").map (fun s => s.parameters.length) = some 3 := by decide +kernel
set_option maxRecDepth 100000 in
theorem mvX5_worked : xMv YX5_worked 5 3 := ⟨_, _, _, by decide, rfl, ⟨q2644, plainFor_of_name pnX5, mhX5, pd170⟩, q2643, qs121⟩
set_option maxRecDepth 100000 in
theorem pd171 : (parseMethodDescriptor "(LPascalHouse$Item;)V").map (fun s => s.parameters.length) = some 1 := by decide +kernel
set_option maxRecDepth 100000 in
theorem mvX5_address : xMv YX5_address 5 1 := ⟨_, _, _, by decide, rfl, ⟨q2597, plainFor_of_name pnX5, mhX5, pd171⟩, q2596, qs113⟩
set_option maxRecDepth 100000 in
theorem pd172 : (parseMethodDescriptor "(LPascalHouse$Parameter;LPascalHouse$Tree;)V").map (fun s => s.parameters.length) = some 2 := by decide +kernel
set_option maxRecDepth 100000 in
theorem mvX5_argument : xMv YX5_argument 5 2 := ⟨_, _, _, by decide, rfl, ⟨q2564, plainFor_of_name pnX5, mhX5, pd172⟩, q2563, qs110⟩
set_option maxRecDepth 100000 in
theorem gfX5_744 : xFn RX5 744 21 0 (.int) true := ⟨_, _, _, _, by decide, rfl, by decide, in_X21, List.mem_filter.mpr ⟨q2464, rfl⟩, rfl, tyX21_ok, nmX21, rfl, by decide⟩
set_option maxRecDepth 100000 in
theorem gfX5_747 : xFn RX5 747 21 2 (.object "PascalHouse$Routine") true := ⟨_, _, _, _, by decide, rfl, by decide, in_X21, List.mem_filter.mpr ⟨q2471, rfl⟩, rfl, tyX21_ok, nmX21, rfl, by decide⟩
set_option maxRecDepth 100000 in
theorem mvX5_variable : xMv YX5_variable 5 1 := ⟨_, _, _, by decide, rfl, ⟨q2593, plainFor_of_name pnX5, mhX5, pd155⟩, q2592, qs112⟩
set_option maxRecDepth 100000 in
theorem fdX5_702 : xFd RX5 702 5 22 (.object "PascalHouse$Part") false := ⟨_, _, _, by decide, rfl, by decide, in_X5, q1129, rfl, tyX5_ok, nmX5, rfl, by decide⟩
set_option maxRecDepth 100000 in
theorem gfX5_746 : xFn RX5 746 21 1 (.object "PascalHouse$Type") true := ⟨_, _, _, _, by decide, rfl, by decide, in_X21, List.mem_filter.mpr ⟨q2468, rfl⟩, rfl, tyX21_ok, nmX21, rfl, by decide⟩
set_option maxRecDepth 100000 in
theorem fdX5_705 : xFd RX5 705 5 21 (.object "PascalHouse$Item") false := ⟨_, _, _, by decide, rfl, by decide, in_X5, q1128, rfl, tyX5_ok, nmX5, rfl, by decide⟩
set_option maxRecDepth 100000 in
theorem pd173 : (parseMethodDescriptor "(LPascalHouse$Item;I)V").map (fun s => s.parameters.length) = some 2 := by decide +kernel
set_option maxRecDepth 100000 in
theorem mvX5_threaten : xMv YX5_threaten 5 2 := ⟨_, _, _, by decide, rfl, ⟨q2617, plainFor_of_name pnX5, mhX5, pd173⟩, q2616, qs118⟩
set_option maxRecDepth 100000 in
theorem mvX6_takes : xMv YX6_takes 6 1 := ⟨_, _, _, by decide, rfl, ⟨q2568, plainFor_of_name pnX6, mhX6, pd114⟩, q2566, q2567⟩
set_option maxRecDepth 100000 in
theorem pd174 : (parseMethodDescriptor "(LPascalHouse$Type;LPascalHouse$Type;I)V").map (fun s => s.parameters.length) = some 3 := by decide +kernel
set_option maxRecDepth 100000 in
theorem mvX5_fit : xMv YX5_fit 5 3 := ⟨_, _, _, by decide, rfl, ⟨q2589, plainFor_of_name pnX5, mhX5, pd174⟩, q2588, qs111⟩
set_option maxRecDepth 100000 in
theorem gfX5_691 : xFn RX5 691 7 3 (.int) false := ⟨_, _, _, _, by decide, rfl, by decide, in_X7, List.mem_filter.mpr ⟨q763, rfl⟩, rfl, tyX7_ok, nmX7, rfl, by decide⟩
set_option maxRecDepth 100000 in
theorem pd175 : (parseMethodDescriptor "(LPascalHouse$Field;I)LPascalHouse$Type;").map (fun s => s.parameters.length) = some 2 := by decide +kernel
set_option maxRecDepth 100000 in
theorem mvX5_fieldOf : xMv YX5_fieldOf 5 2 := ⟨_, _, _, by decide, rfl, ⟨q2601, plainFor_of_name pnX5, mhX5, pd175⟩, q2600, qs114⟩
set_option maxRecDepth 100000 in
theorem pd176 : (parseMethodDescriptor "(LPascalHouse$Type;LPascalHouse$Tree;)LPascalHouse$Type;").map (fun s => s.parameters.length) = some 2 := by decide +kernel
set_option maxRecDepth 100000 in
theorem mvX5_selected : xMv YX5_selected 5 2 := ⟨_, _, _, by decide, rfl, ⟨q2613, plainFor_of_name pnX5, mhX5, pd176⟩, q2612, qs117⟩
set_option maxRecDepth 100000 in
theorem gfX5_723 : xFn RX5 723 20 4 (.object "PascalHouse$Part") true := ⟨_, _, _, _, by decide, rfl, by decide, in_X20, List.mem_filter.mpr ⟨q2380, rfl⟩, rfl, tyX20_ok, nmX20, rfl, by decide⟩
set_option maxRecDepth 100000 in
theorem gfX5_726 : xFn RX5 726 20 3 (.int) true := ⟨_, _, _, _, by decide, rfl, by decide, in_X20, List.mem_filter.mpr ⟨q2378, rfl⟩, rfl, tyX20_ok, nmX20, rfl, by decide⟩
set_option maxRecDepth 100000 in
theorem mvX5_parts : xMv YX5_parts 5 3 := ⟨_, _, _, by decide, rfl, ⟨q2605, plainFor_of_name pnX5, mhX5, pd124⟩, q2604, qs115⟩
set_option maxRecDepth 100000 in
theorem gfX5_731 : xFn RX5 731 20 2 (.int) true := ⟨_, _, _, _, by decide, rfl, by decide, in_X20, List.mem_filter.mpr ⟨q2376, rfl⟩, rfl, tyX20_ok, nmX20, rfl, by decide⟩
set_option maxRecDepth 100000 in
theorem pd177 : (parseMethodDescriptor "(LPascalHouse$Part;)I").map (fun s => s.parameters.length) = some 1 := by decide +kernel
set_option maxRecDepth 100000 in
theorem mvX5_partNumber : xMv YX5_partNumber 5 1 := ⟨_, _, _, by decide, rfl, ⟨q2609, plainFor_of_name pnX5, mhX5, pd177⟩, q2608, qs116⟩
set_option maxRecDepth 100000 in
theorem gfX5_671 : xFn RX5 671 8 6 (.int) false := ⟨_, _, _, _, by decide, rfl, by decide, in_X8, List.mem_filter.mpr ⟨q978, rfl⟩, rfl, tyX8_ok, nmX8, rfl, by decide⟩
set_option maxRecDepth 100000 in
theorem gfX5_668 : xFn RX5 668 8 10 (.boolean) false := ⟨_, _, _, _, by decide, rfl, by decide, in_X8, List.mem_filter.mpr ⟨q982, rfl⟩, rfl, tyX8_ok, nmX8, rfl, by decide⟩
set_option maxRecDepth 100000 in
theorem mvX5_load : xMv YX5_load 5 2 := ⟨_, _, _, by decide, rfl, ⟨q2652, plainFor_of_name pnX5, mhX5, pd160⟩, q2651, qs123⟩
set_option maxRecDepth 100000 in
theorem pd178 : (parseMethodDescriptor "(LPascalHouse$Tree;LPascalHouse$Type;LPascalHouse$Type;)LPascalHouse$Type;").map (fun s => s.parameters.length) = some 3 := by decide +kernel
set_option maxRecDepth 100000 in
theorem mvX5_operated : xMv YX5_operated 5 3 := ⟨_, _, _, by decide, rfl, ⟨q2664, plainFor_of_name pnX5, mhX5, pd178⟩, q2663, qs126⟩
set_option maxRecDepth 100000 in
theorem srX5_837 : ∃ t, xstrs[127]? = some (RX5, 837, t, 0) := ⟨_, rfl⟩
set_option maxRecDepth 100000 in
theorem srX5_839 : ∃ t, xstrs[128]? = some (RX5, 839, t, 21) := ⟨_, rfl⟩
set_option maxRecDepth 100000 in
theorem srX5_841 : ∃ t, xstrs[129]? = some (RX5, 841, t, 5) := ⟨_, rfl⟩
set_option maxRecDepth 100000 in
theorem srX5_843 : ∃ t, xstrs[130]? = some (RX5, 843, t, 17) := ⟨_, rfl⟩
set_option maxRecDepth 100000 in
theorem srX5_845 : ∃ t, xstrs[131]? = some (RX5, 845, t, 56) := ⟨_, rfl⟩
set_option maxRecDepth 100000 in
theorem srX5_855 : ∃ t, xstrs[132]? = some (RX5, 855, t, 53) := ⟨_, rfl⟩
set_option maxRecDepth 100000 in
theorem pd179 : (parseMethodDescriptor "(LPascalHouse$Type;LPascalHouse$Type;)Z").map (fun s => s.parameters.length) = some 2 := by decide +kernel
set_option maxRecDepth 100000 in
theorem mvX5_isMixed : xMv YX5_isMixed 5 2 := ⟨_, _, _, by decide, rfl, ⟨q2673, plainFor_of_name pnX5, mhX5, pd179⟩, q2672, qs127⟩
set_option maxRecDepth 100000 in
theorem pd180 : (parseMethodDescriptor "(LPascalHouse$Type;LPascalHouse$Type;)V").map (fun s => s.parameters.length) = some 2 := by decide +kernel
set_option maxRecDepth 100000 in
theorem mvX5_floats : xMv YX5_floats 5 2 := ⟨_, _, _, by decide, rfl, ⟨q2677, plainFor_of_name pnX5, mhX5, pd180⟩, q2676, qs128⟩
set_option maxRecDepth 100000 in
theorem srX5_872 : ∃ t, xstrs[133]? = some (RX5, 872, t, 15) := ⟨_, rfl⟩
set_option maxRecDepth 100000 in
theorem msX5_relation : xMs YX5_relation 1 := ⟨⟨q2688, plainFor_of_name pnX5, mhX5, pd32⟩, q2687, q389⟩
set_option maxRecDepth 100000 in
theorem srX5_862 : ∃ t, xstrs[134]? = some (RX5, 862, t, 57) := ⟨_, rfl⟩
set_option maxRecDepth 100000 in
theorem srX5_864 : ∃ t, xstrs[135]? = some (RX5, 864, t, 50) := ⟨_, rfl⟩
set_option maxRecDepth 100000 in
theorem srX5_866 : ∃ t, xstrs[136]? = some (RX5, 866, t, 58) := ⟨_, rfl⟩
set_option maxRecDepth 100000 in
theorem srX5_868 : ∃ t, xstrs[137]? = some (RX5, 868, t, 59) := ⟨_, rfl⟩
set_option maxRecDepth 100000 in
theorem srX5_870 : ∃ t, xstrs[138]? = some (RX5, 870, t, 48) := ⟨_, rfl⟩
set_option maxRecDepth 100000 in
theorem gfX5_663 : xFn RX5 663 2 14 (.int) false := ⟨_, _, _, _, by decide, rfl, by decide, in_X2, List.mem_filter.mpr ⟨q561, rfl⟩, rfl, tyX2_ok, nmX2, rfl, by decide⟩
set_option maxRecDepth 100000 in
theorem mvX2_when : xMv YX2_when 2 2 := ⟨_, _, _, by decide, rfl, ⟨q2711, plainFor_of_name pnX2, mhX2, pd8⟩, q2709, q2710⟩
set_option maxRecDepth 100000 in
theorem gfX5_682 : xFn RX5 682 17 9 (.int) false := ⟨_, _, _, _, by decide, rfl, by decide, in_X17, List.mem_filter.mpr ⟨q2163, rfl⟩, rfl, tyX17_ok, nmX17, rfl, by decide⟩
set_option maxRecDepth 100000 in
theorem gfX5_685 : xFn RX5 685 2 2 (.array .int) false := ⟨_, _, _, _, by decide, rfl, by decide, in_X2, List.mem_filter.mpr ⟨q535, rfl⟩, rfl, tyX2_ok, nmX2, rfl, by decide⟩
set_option maxRecDepth 100000 in
theorem gfX5_571 : xFn RX5 571 17 4 (.object "java/util/ArrayList") true := ⟨_, _, _, _, by decide, rfl, by decide, in_X17, List.mem_filter.mpr ⟨q2154, rfl⟩, rfl, tyX17_ok, nmX17, rfl, by decide⟩
set_option maxRecDepth 100000 in
theorem pd181 : (parseMethodDescriptor "(LPascalHouse$Label;IZ)LPascalHouse$Leap;").map (fun s => s.parameters.length) = some 3 := by decide +kernel
set_option maxRecDepth 100000 in
theorem mvX17_leap : xMv YX17_leap 17 3 := ⟨_, _, _, by decide, rfl, ⟨q2731, plainFor_of_name pnX17, mhX17, pd181⟩, q2729, q2730⟩
set_option maxRecDepth 100000 in
theorem pd182 : (parseMethodDescriptor "(LPascalHouse$Item;)LPascalHouse$Routine;").map (fun s => s.parameters.length) = some 1 := by decide +kernel
set_option maxRecDepth 100000 in
theorem mvX5_within : xMv YX5_within 5 1 := ⟨_, _, _, by decide, rfl, ⟨q2769, plainFor_of_name pnX5, mhX5, pd182⟩, q2768, qs137⟩
set_option maxRecDepth 100000 in
theorem mvX5_store : xMv YX5_store 5 3 := ⟨_, _, _, by decide, rfl, ⟨q2773, plainFor_of_name pnX5, mhX5, pd174⟩, q2772, qs138⟩
set_option maxRecDepth 100000 in
theorem pd183 : (parseMethodDescriptor "(ILPascalHouse$Tree;)V").map (fun s => s.parameters.length) = some 2 := by decide +kernel
set_option maxRecDepth 100000 in
theorem mvX5_required : xMv YX5_required 5 2 := ⟨_, _, _, by decide, rfl, ⟨q2781, plainFor_of_name pnX5, mhX5, pd183⟩, q2780, qs140⟩
set_option maxRecDepth 100000 in
theorem mvX5_transfers : xMv YX5_transfers 5 2 := ⟨_, _, _, by decide, rfl, ⟨q2785, plainFor_of_name pnX5, mhX5, pd183⟩, q2784, qs141⟩
set_option maxRecDepth 100000 in
theorem pd184 : (parseMethodDescriptor "(LPascalHouse$Item;LPascalHouse$Tree;I)V").map (fun s => s.parameters.length) = some 3 := by decide +kernel
set_option maxRecDepth 100000 in
theorem mvX5_writes : xMv YX5_writes 5 3 := ⟨_, _, _, by decide, rfl, ⟨q2793, plainFor_of_name pnX5, mhX5, pd184⟩, q2792, qs143⟩
set_option maxRecDepth 100000 in
theorem mvX5_reads : xMv YX5_reads 5 3 := ⟨_, _, _, by decide, rfl, ⟨q2789, plainFor_of_name pnX5, mhX5, pd184⟩, q2788, qs142⟩
set_option maxRecDepth 100000 in
theorem gfX5_575 : xFn RX5 575 22 0 (.object "PascalHouse$Label") true := ⟨_, _, _, _, by decide, rfl, by decide, in_X22, List.mem_filter.mpr ⟨q2742, rfl⟩, rfl, tyX22_ok, nmX22, rfl, by decide⟩
set_option maxRecDepth 100000 in
theorem gfX5_581 : xFn RX5 581 22 2 (.boolean) true := ⟨_, _, _, _, by decide, rfl, by decide, in_X22, List.mem_filter.mpr ⟨q2746, rfl⟩, rfl, tyX22_ok, nmX22, rfl, by decide⟩
set_option maxRecDepth 100000 in
theorem gfX5_590 : xFn RX5 590 22 4 (.array .int) true := ⟨_, _, _, _, by decide, rfl, by decide, in_X22, List.mem_filter.mpr ⟨q2750, rfl⟩, rfl, tyX22_ok, nmX22, rfl, by decide⟩
set_option maxRecDepth 100000 in
theorem pd185 : (parseMethodDescriptor "([II)Z").map (fun s => s.parameters.length) = some 2 := by decide +kernel
set_option maxRecDepth 100000 in
theorem msX5_has : xMs YX5_has 2 := ⟨⟨q2805, plainFor_of_name pnX5, mhX5, pd185⟩, q2804, q389⟩
set_option maxRecDepth 100000 in
theorem gfX5_600 : xFn RX5 600 22 3 (.array .int) true := ⟨_, _, _, _, by decide, rfl, by decide, in_X22, List.mem_filter.mpr ⟨q2748, rfl⟩, rfl, tyX22_ok, nmX22, rfl, by decide⟩
set_option maxRecDepth 100000 in
theorem gfX5_602 : xFn RX5 602 22 1 (.int) true := ⟨_, _, _, _, by decide, rfl, by decide, in_X22, List.mem_filter.mpr ⟨q2744, rfl⟩, rfl, tyX22_ok, nmX22, rfl, by decide⟩
set_option maxRecDepth 100000 in
theorem msJ6_inflate : xMs YJ6_inflate 5 := ⟨⟨q886, plainFor_of_name pnJ6, mhJ6, pd29⟩, q885, q388⟩
set_option maxRecDepth 100000 in
theorem msJ21_compare : xMs YJ21_compare 2 := ⟨⟨q3059, plainFor_of_name pnJ21, mhJ21, pd31⟩, q3058, q430⟩
set_option maxRecDepth 100000 in
theorem fdX27_7 : xFd RX27 7 27 0 (.int) true := ⟨_, _, _, by decide, rfl, by decide, in_X27, q4431, rfl, tyX27_ok, nmX27, rfl, by decide⟩
set_option maxRecDepth 100000 in
theorem owX27_init_0 : xOwn YX27_init 27 0 := ⟨rfl, _, _, rfl, rfl⟩
set_option maxRecDepth 100000 in
theorem fdX27_13 : xFd RX27 13 27 1 (.object "PascalHouseModel$Label") true := ⟨_, _, _, by decide, rfl, by decide, in_X27, q4433, rfl, tyX27_ok, nmX27, rfl, by decide⟩
set_option maxRecDepth 100000 in
theorem owX27_init_1 : xOwn YX27_init 27 1 := ⟨rfl, _, _, rfl, rfl⟩
set_option maxRecDepth 100000 in
theorem fdX27_17 : xFd RX27 17 27 2 (.boolean) true := ⟨_, _, _, by decide, rfl, by decide, in_X27, q4435, rfl, tyX27_ok, nmX27, rfl, by decide⟩
set_option maxRecDepth 100000 in
theorem owX27_init_2 : xOwn YX27_init 27 2 := ⟨rfl, _, _, rfl, rfl⟩
set_option maxRecDepth 100000 in
theorem fdJ5_9 : xFd RJ5 9 30 0 (.array .byte) true := ⟨_, _, _, by decide, rfl, by decide, in_J5, q950, rfl, tyJ5_ok, nmJ5, rfl, by decide⟩
set_option maxRecDepth 100000 in
theorem pd186 : (parseMethodDescriptor "()B").map (fun s => s.parameters.length) = some 0 := by decide +kernel
set_option maxRecDepth 100000 in
theorem mvJ5_coder : xMv YJ5_coder 30 0 := ⟨_, _, _, by decide, rfl, ⟨q787, plainFor_of_name pnJ5, mhJ5, pd186⟩, q785, q786⟩
set_option maxRecDepth 100000 in
theorem fdJ5_15 : xFd RJ5 15 30 1 (.byte) true := ⟨_, _, _, by decide, rfl, by decide, in_J5, q951, rfl, tyJ5_ok, nmJ5, rfl, by decide⟩
set_option maxRecDepth 100000 in
theorem mvJ5_isLatin1 : xMv YJ5_isLatin1 30 0 := ⟨_, _, _, by decide, rfl, ⟨q796, plainFor_of_name pnJ5, mhJ5, pd6⟩, q794, q795⟩
set_option maxRecDepth 100000 in
theorem msJ6_charAt : xMs YJ6_charAt 2 := ⟨⟨q810, plainFor_of_name pnJ6, mhJ6, pd116⟩, q809, q388⟩
set_option maxRecDepth 100000 in
theorem msJ7_charAt : xMs YJ7_charAt 2 := ⟨⟨q799, plainFor_of_name pnJ7, mhJ7, pd116⟩, q798, q392⟩
set_option maxRecDepth 100000 in
theorem pd187 : (parseMethodDescriptor "(IIILjava/util/function/BiFunction;)I").map (fun s => s.parameters.length) = some 4 := by decide +kernel
set_option maxRecDepth 100000 in
theorem msJ8_checkFromIndexSize : xMs YJ8_checkFromIndexSize 4 := ⟨⟨q895, plainFor_of_name pnJ8, mhJ8, pd187⟩, q894, q393⟩
set_option maxRecDepth 100000 in
theorem pd188 : (parseMethodDescriptor "(Ljava/lang/AbstractStringBuilder;Ljava/lang/Void;)V").map (fun s => s.parameters.length) = some 2 := by decide +kernel
set_option maxRecDepth 100000 in
theorem miJ5_init_2 : xMi YJ5_init_2 2 := ⟨⟨q915, plainFor_of_name pnJ5, mhJ5, pd188⟩, q914, rfl, rfl, rfl⟩
set_option maxRecDepth 100000 in
theorem pd189 : (parseMethodDescriptor "()[B").map (fun s => s.parameters.length) = some 0 := by decide +kernel
set_option maxRecDepth 100000 in
theorem mvJ3_getValue : xMv YJ3_getValue 29 0 := ⟨_, _, _, by decide, rfl, ⟨q921, plainFor_of_name pnJ3, mhJ3, pd189⟩, q918, q920⟩
set_option maxRecDepth 100000 in
theorem mxJ5_549 : xMx RJ5 549 YJ4_length 29 0 := ⟨_, _, _, yJ3_length, _, _, by decide, rfl, ⟨q927, plainFor_of_name pnJ4, mhJ4, pd3⟩, q922, mhJ3, q923, q926, q925, rfl, q872, rfl, _, _, _, q929⟩
set_option maxRecDepth 100000 in
theorem fdJ5_1048 : xFd RJ5 1048 29 2 (.boolean) false := ⟨_, _, _, by decide, rfl, by decide, in_J4, q630, rfl, tyJ4_ok, nmJ4, rfl, by decide⟩
set_option maxRecDepth 100000 in
theorem msJ6_compress : xMs YJ6_compress 3 := ⟨⟨q942, plainFor_of_name pnJ6, mhJ6, pd98⟩, q941, q388⟩
set_option maxRecDepth 100000 in
theorem owJ5_init_2_0 : xOwn YJ5_init_2 30 0 := ⟨rfl, _, _, rfl, rfl⟩
set_option maxRecDepth 100000 in
theorem pd190 : (parseMethodDescriptor "([BI)B").map (fun s => s.parameters.length) = some 2 := by decide +kernel
set_option maxRecDepth 100000 in
theorem msJ6_coderFromArrayLen : xMs YJ6_coderFromArrayLen 2 := ⟨⟨q949, plainFor_of_name pnJ6, mhJ6, pd190⟩, q948, q388⟩
set_option maxRecDepth 100000 in
theorem owJ5_init_2_1 : xOwn YJ5_init_2 30 1 := ⟨rfl, _, _, rfl, rfl⟩
set_option maxRecDepth 100000 in
theorem pd191 : (parseMethodDescriptor "([B[B)Z").map (fun s => s.parameters.length) = some 2 := by decide +kernel
set_option maxRecDepth 100000 in
theorem msJ7_equals : xMs YJ7_equals 2 := ⟨⟨q1650, plainFor_of_name pnJ7, mhJ7, pd191⟩, q1649, q392⟩
set_option maxRecDepth 100000 in
theorem fdX22_7 : xFd RX22 7 22 0 (.object "PascalHouse$Label") true := ⟨_, _, _, by decide, rfl, by decide, in_X22, q2741, rfl, tyX22_ok, nmX22, rfl, by decide⟩
set_option maxRecDepth 100000 in
theorem owX22_init_0 : xOwn YX22_init 22 0 := ⟨rfl, _, _, rfl, rfl⟩
set_option maxRecDepth 100000 in
theorem fdX22_13 : xFd RX22 13 22 1 (.int) true := ⟨_, _, _, by decide, rfl, by decide, in_X22, q2743, rfl, tyX22_ok, nmX22, rfl, by decide⟩
set_option maxRecDepth 100000 in
theorem owX22_init_1 : xOwn YX22_init 22 1 := ⟨rfl, _, _, rfl, rfl⟩
set_option maxRecDepth 100000 in
theorem fdX22_17 : xFd RX22 17 22 2 (.boolean) true := ⟨_, _, _, by decide, rfl, by decide, in_X22, q2745, rfl, tyX22_ok, nmX22, rfl, by decide⟩
set_option maxRecDepth 100000 in
theorem owX22_init_2 : xOwn YX22_init 22 2 := ⟨rfl, _, _, rfl, rfl⟩
set_option maxRecDepth 100000 in
theorem fdX22_21 : xFd RX22 21 22 3 (.array .int) true := ⟨_, _, _, by decide, rfl, by decide, in_X22, q2747, rfl, tyX22_ok, nmX22, rfl, by decide⟩
set_option maxRecDepth 100000 in
theorem owX22_init_3 : xOwn YX22_init 22 3 := ⟨rfl, _, _, rfl, rfl⟩
set_option maxRecDepth 100000 in
theorem fdX22_25 : xFd RX22 25 22 4 (.array .int) true := ⟨_, _, _, by decide, rfl, by decide, in_X22, q2749, rfl, tyX22_ok, nmX22, rfl, by decide⟩
set_option maxRecDepth 100000 in
theorem owX22_init_4 : xOwn YX22_init 22 4 := ⟨rfl, _, _, rfl, rfl⟩
set_option maxRecDepth 100000 in
theorem miJ3_init : xMi YJ3_init 1 := ⟨⟨q616, plainFor_of_name pnJ3, mhJ3, pd0⟩, q615, rfl, rfl, rfl⟩
set_option maxRecDepth 100000 in
theorem pd192 : (parseMethodDescriptor "(C)Ljava/lang/AbstractStringBuilder;").map (fun s => s.parameters.length) = some 1 := by decide +kernel
set_option maxRecDepth 100000 in
theorem muJ4_J3_append : xMu RJ4 YJ3_append 29 1 := ⟨_, _, _, by decide, rfl, ⟨q833, plainFor_of_name pnJ3, mhJ3, pd192⟩, q832, q4827, q640, by decide +kernel⟩
set_option maxRecDepth 100000 in
theorem cdJ4_18 : xCd RJ4 18 30 4 := ⟨_, _, _, by decide, rfl, in_J5, tyJ5_ok, q908, q909, q387⟩
set_option maxRecDepth 100000 in
theorem pd193 : (parseMethodDescriptor "(Ljava/lang/StringBuilder;)V").map (fun s => s.parameters.length) = some 1 := by decide +kernel
set_option maxRecDepth 100000 in
theorem miJ5_init : xMi YJ5_init 1 := ⟨⟨q912, plainFor_of_name pnJ5, mhJ5, pd193⟩, q911, rfl, rfl, rfl⟩
set_option maxRecDepth 100000 in
theorem muJ4_J3_length : xMu RJ4 YJ3_length 29 0 := ⟨_, _, _, by decide, rfl, ⟨q929, plainFor_of_name pnJ3, mhJ3, pd3⟩, q923, q924, q640, by decide +kernel⟩
set_option maxRecDepth 100000 in
theorem muJ4_J3_setLength : xMu RJ4 YJ3_setLength 29 1 := ⟨_, _, _, by decide, rfl, ⟨q1080, plainFor_of_name pnJ3, mhJ3, pd0⟩, q1079, q4831, q640, by decide +kernel⟩
set_option maxRecDepth 100000 in
theorem pnJ1 : plainName RJ1 = true := by decide +kernel
set_option maxRecDepth 100000 in
theorem mhJ1 : RJ1 ≠ "java/lang/invoke/MethodHandle" ∧ RJ1 ≠ "java/lang/invoke/VarHandle" := by decide +kernel
set_option maxRecDepth 100000 in
theorem miJ1_init : xMi YJ1_init 0 := ⟨⟨q507, plainFor_of_name pnJ1, mhJ1, pd1⟩, q506, rfl, rfl, rfl⟩
set_option maxRecDepth 100000 in
theorem fdJ2_9 : xFd RJ2 9 28 1 (.array (.object "java/lang/Object")) false := ⟨_, _, _, by decide, rfl, by decide, in_J2, q516, rfl, tyJ2_ok, nmJ2, rfl, by decide⟩
set_option maxRecDepth 100000 in
theorem anJ2_7 : xAd RJ2 7 5 := ⟨_, by decide, rfl, q512, by simp [xao]⟩
set_option maxRecDepth 100000 in
theorem fsJ2_63 : xFs RJ2 63 28 0 (.int) := ⟨_, _, _, _, by decide, rfl, by decide, in_J2, q519, q520, rfl, tyJ2_ok, nmJ2, rfl, by decide⟩
set_option maxRecDepth 100000 in
theorem fdJ2_48 : xFd RJ2 48 28 2 (.int) false := ⟨_, _, _, by decide, rfl, by decide, in_J2, q517, rfl, tyJ2_ok, nmJ2, rfl, by decide⟩
set_option maxRecDepth 100000 in
theorem pd194 : (parseMethodDescriptor "(Ljava/lang/Object;[Ljava/lang/Object;I)V").map (fun s => s.parameters.length) = some 3 := by decide +kernel
set_option maxRecDepth 100000 in
theorem mvJ2_add_2 : xMv YJ2_add_2 28 3 := ⟨_, _, _, by decide, rfl, ⟨q1016, plainFor_of_name pnJ2, mhJ2, pd194⟩, q1015, qs2⟩
set_option maxRecDepth 100000 in
theorem pd195 : (parseMethodDescriptor "()[Ljava/lang/Object;").map (fun s => s.parameters.length) = some 0 := by decide +kernel
set_option maxRecDepth 100000 in
theorem mvJ2_grow : xMv YJ2_grow 28 0 := ⟨_, _, _, by decide, rfl, ⟨q1020, plainFor_of_name pnJ2, mhJ2, pd195⟩, q1019, qs3⟩
set_option maxRecDepth 100000 in
theorem pd196 : (parseMethodDescriptor "(I)[Ljava/lang/Object;").map (fun s => s.parameters.length) = some 1 := by decide +kernel
set_option maxRecDepth 100000 in
theorem mvJ2_grow_2 : xMv YJ2_grow_2 28 1 := ⟨_, _, _, by decide, rfl, ⟨q1024, plainFor_of_name pnJ2, mhJ2, pd196⟩, q1023, qs4⟩
set_option maxRecDepth 100000 in
theorem pd197 : (parseMethodDescriptor "([Ljava/lang/Object;I)[Ljava/lang/Object;").map (fun s => s.parameters.length) = some 2 := by decide +kernel
set_option maxRecDepth 100000 in
theorem msJ11_copyOf_2 : xMs YJ11_copyOf_2 2 := ⟨⟨q1030, plainFor_of_name pnJ11, mhJ11, pd197⟩, q1029, q396⟩
set_option maxRecDepth 100000 in
theorem pnJ16 : plainName RJ16 = true := by decide +kernel
set_option maxRecDepth 100000 in
theorem mhJ16 : RJ16 ≠ "java/lang/invoke/MethodHandle" ∧ RJ16 ≠ "java/lang/invoke/VarHandle" := by decide +kernel
set_option maxRecDepth 100000 in
theorem msJ16_checkIndex : xMs YJ16_checkIndex 2 := ⟨⟨q2121, plainFor_of_name pnJ16, mhJ16, pd31⟩, q2120, q413⟩
set_option maxRecDepth 100000 in
theorem mvJ2_elementData : xMv YJ2_elementData 28 1 := ⟨_, _, _, by decide, rfl, ⟨q2126, plainFor_of_name pnJ2, mhJ2, pd23⟩, q2124, q2125⟩
set_option maxRecDepth 100000 in
theorem pd198 : (parseMethodDescriptor "([Ljava/lang/Object;I)V").map (fun s => s.parameters.length) = some 2 := by decide +kernel
set_option maxRecDepth 100000 in
theorem mvJ2_fastRemove : xMv YJ2_fastRemove 28 2 := ⟨_, _, _, by decide, rfl, ⟨q4294, plainFor_of_name pnJ2, mhJ2, pd198⟩, q4293, qs275⟩
set_option maxRecDepth 100000 in
theorem cwJ2_112 : xcpw RJ2 112 := ⟨q4295, q868, q867, q397⟩
set_option maxRecDepth 100000 in
theorem cdX4_9 : xCd RX4 9 29 4 := ⟨_, _, _, by decide, rfl, in_J4, tyJ4_ok, q609, q610, q386⟩
set_option maxRecDepth 100000 in
theorem fdX4_14 : xFd RX4 14 4 3 (.object "java/lang/StringBuilder") true := ⟨_, _, _, by decide, rfl, by decide, in_X4, q644, rfl, tyX4_ok, nmX4, rfl, by decide⟩
set_option maxRecDepth 100000 in
theorem owX4_init_3 : xOwn YX4_init 4 3 := ⟨rfl, _, _, rfl, rfl⟩
set_option maxRecDepth 100000 in
theorem fdX4_20 : xFd RX4 20 4 0 (.array .byte) true := ⟨_, _, _, by decide, rfl, by decide, in_X4, q641, rfl, tyX4_ok, nmX4, rfl, by decide⟩
set_option maxRecDepth 100000 in
theorem owX4_init_0 : xOwn YX4_init 4 0 := ⟨rfl, _, _, rfl, rfl⟩
set_option maxRecDepth 100000 in
theorem fdX4_24 : xFd RX4 24 4 1 (.array (.object "java/lang/String")) true := ⟨_, _, _, by decide, rfl, by decide, in_X4, q642, rfl, tyX4_ok, nmX4, rfl, by decide⟩
set_option maxRecDepth 100000 in
theorem owX4_init_1 : xOwn YX4_init 4 1 := ⟨rfl, _, _, rfl, rfl⟩
set_option maxRecDepth 100000 in
theorem fdX4_28 : xFd RX4 28 4 2 (.object "PascalHouse$Faults") true := ⟨_, _, _, by decide, rfl, by decide, in_X4, q643, rfl, tyX4_ok, nmX4, rfl, by decide⟩
set_option maxRecDepth 100000 in
theorem owX4_init_2 : xOwn YX4_init 4 2 := ⟨rfl, _, _, rfl, rfl⟩
set_option maxRecDepth 100000 in
theorem fdX4_32 : xFd RX4 32 4 4 (.int) false := ⟨_, _, _, by decide, rfl, by decide, in_X4, q645, rfl, tyX4_ok, nmX4, rfl, by decide⟩
set_option maxRecDepth 100000 in
theorem fdX4_36 : xFd RX4 36 4 5 (.int) false := ⟨_, _, _, by decide, rfl, by decide, in_X4, q646, rfl, tyX4_ok, nmX4, rfl, by decide⟩
set_option maxRecDepth 100000 in
theorem mvX4_pass : xMv YX4_pass 4 0 := ⟨_, _, _, by decide, rfl, ⟨q1579, plainFor_of_name pnX4, mhX4, pd1⟩, q1578, qs10⟩
set_option maxRecDepth 100000 in
theorem mvX4_here : xMv YX4_here 4 1 := ⟨_, _, _, by decide, rfl, ⟨q1583, plainFor_of_name pnX4, mhX4, pd7⟩, q1582, qs11⟩
set_option maxRecDepth 100000 in
theorem msX0_isLetter : xMs YX0_isLetter 1 := ⟨⟨q1629, plainFor_of_name pnX0, mhX0, pd34⟩, q1628, q377⟩
set_option maxRecDepth 100000 in
theorem mvX4_sign : xMv YX4_sign 4 0 := ⟨_, _, _, by decide, rfl, ⟨q1692, plainFor_of_name pnX4, mhX4, pd17⟩, q1691, qs18⟩
set_option maxRecDepth 100000 in
theorem mvX4_string : xMv YX4_string 4 0 := ⟨_, _, _, by decide, rfl, ⟨q1685, plainFor_of_name pnX4, mhX4, pd17⟩, q1684, qs17⟩
set_option maxRecDepth 100000 in
theorem mvX4_number : xMv YX4_number 4 0 := ⟨_, _, _, by decide, rfl, ⟨q1658, plainFor_of_name pnX4, mhX4, pd17⟩, q1657, qs15⟩
set_option maxRecDepth 100000 in
theorem mvX4_word : xMv YX4_word 4 0 := ⟨_, _, _, by decide, rfl, ⟨q1633, plainFor_of_name pnX4, mhX4, pd17⟩, q1632, qs14⟩
set_option maxRecDepth 100000 in
theorem cdX4_58 : xCd RX4 58 14 5 := ⟨_, _, _, by decide, rfl, in_X14, tyX14_ok, q1593, q1594, q408⟩
set_option maxRecDepth 100000 in
theorem srX4_66 : ∃ t, xstrs[45]? = some (RX4, 66, t, 45) := ⟨_, rfl⟩
set_option maxRecDepth 100000 in
theorem pd199 : (parseMethodDescriptor "(LPascalHouse$Sort;Ljava/lang/String;IID)V").map (fun s => s.parameters.length) = some 5 := by decide +kernel
set_option maxRecDepth 100000 in
theorem miX14_init : xMi YX14_init 5 := ⟨⟨q1600, plainFor_of_name pnX14, mhX14, pd199⟩, q1599, rfl, rfl, rfl⟩
set_option maxRecDepth 100000 in
theorem mvX4_passComment : xMv YX4_passComment 4 0 := ⟨_, _, _, by decide, rfl, ⟨q1587, plainFor_of_name pnX4, mhX4, pd1⟩, q1586, qs12⟩
set_option maxRecDepth 100000 in
theorem pd200 : (parseMethodDescriptor "(I)Ljava/lang/IllegalStateException;").map (fun s => s.parameters.length) = some 1 := by decide +kernel
set_option maxRecDepth 100000 in
theorem mvX4_wrong : xMv YX4_wrong 4 1 := ⟨_, _, _, by decide, rfl, ⟨q1591, plainFor_of_name pnX4, mhX4, pd200⟩, q1590, qs13⟩
set_option maxRecDepth 100000 in
theorem msX0_small : xMs YX0_small 1 := ⟨⟨q1640, plainFor_of_name pnX0, mhX0, pd7⟩, q1639, q377⟩
set_option maxRecDepth 100000 in
theorem mvX4_exponent : xMv YX4_exponent 4 1 := ⟨_, _, _, by decide, rfl, ⟨q1667, plainFor_of_name pnX4, mhX4, pd7⟩, q1666, qs16⟩
set_option maxRecDepth 100000 in
theorem mvJ4_length : xMv YJ4_length 29 0 := ⟨_, _, _, by decide, rfl, ⟨q927, plainFor_of_name pnJ4, mhJ4, pd3⟩, q926, q4833⟩
set_option maxRecDepth 100000 in
theorem srX4_147 : ∃ t, xstrs[46]? = some (RX4, 147, t, 46) := ⟨_, rfl⟩
set_option maxRecDepth 100000 in
theorem srX4_149 : ∃ t, xstrs[47]? = some (RX4, 149, t, 47) := ⟨_, rfl⟩
set_option maxRecDepth 100000 in
theorem srX4_151 : ∃ t, xstrs[48]? = some (RX4, 151, t, 48) := ⟨_, rfl⟩
set_option maxRecDepth 100000 in
theorem srX4_153 : ∃ t, xstrs[49]? = some (RX4, 153, t, 49) := ⟨_, rfl⟩
set_option maxRecDepth 100000 in
theorem srX4_155 : ∃ t, xstrs[50]? = some (RX4, 155, t, 50) := ⟨_, rfl⟩
set_option maxRecDepth 100000 in
theorem srX4_157 : ∃ t, xstrs[51]? = some (RX4, 157, t, 51) := ⟨_, rfl⟩
set_option maxRecDepth 100000 in
theorem srX4_159 : ∃ t, xstrs[52]? = some (RX4, 159, t, 52) := ⟨_, rfl⟩
set_option maxRecDepth 100000 in
theorem msX4_single : xMs YX4_single 1 := ⟨⟨q1702, plainFor_of_name pnX4, mhX4, pd33⟩, q1701, q384⟩
set_option maxRecDepth 100000 in
theorem srX4_180 : ∃ t, xstrs[60]? = some (RX4, 180, t, 60) := ⟨_, rfl⟩
set_option maxRecDepth 100000 in
theorem srX4_182 : ∃ t, xstrs[61]? = some (RX4, 182, t, 61) := ⟨_, rfl⟩
set_option maxRecDepth 100000 in
theorem srX4_170 : ∃ t, xstrs[55]? = some (RX4, 170, t, 55) := ⟨_, rfl⟩
set_option maxRecDepth 100000 in
theorem srX4_166 : ∃ t, xstrs[53]? = some (RX4, 166, t, 53) := ⟨_, rfl⟩
set_option maxRecDepth 100000 in
theorem srX4_186 : ∃ t, xstrs[63]? = some (RX4, 186, t, 63) := ⟨_, rfl⟩
set_option maxRecDepth 100000 in
theorem srX4_168 : ∃ t, xstrs[54]? = some (RX4, 168, t, 54) := ⟨_, rfl⟩
set_option maxRecDepth 100000 in
theorem srX4_184 : ∃ t, xstrs[62]? = some (RX4, 184, t, 62) := ⟨_, rfl⟩
set_option maxRecDepth 100000 in
theorem srX4_172 : ∃ t, xstrs[56]? = some (RX4, 172, t, 56) := ⟨_, rfl⟩
set_option maxRecDepth 100000 in
theorem srX4_190 : ∃ t, xstrs[65]? = some (RX4, 190, t, 65) := ⟨_, rfl⟩
set_option maxRecDepth 100000 in
theorem srX4_188 : ∃ t, xstrs[64]? = some (RX4, 188, t, 64) := ⟨_, rfl⟩
set_option maxRecDepth 100000 in
theorem srX4_176 : ∃ t, xstrs[58]? = some (RX4, 176, t, 58) := ⟨_, rfl⟩
set_option maxRecDepth 100000 in
theorem srX4_174 : ∃ t, xstrs[57]? = some (RX4, 174, t, 57) := ⟨_, rfl⟩
set_option maxRecDepth 100000 in
theorem srX4_178 : ∃ t, xstrs[59]? = some (RX4, 178, t, 59) := ⟨_, rfl⟩
set_option maxRecDepth 100000 in
theorem srX4_192 : ∃ t, xstrs[66]? = some (RX4, 192, t, 66) := ⟨_, rfl⟩
set_option maxRecDepth 100000 in
theorem fdX8_7 : xFd RX8 7 8 0 (.int) true := ⟨_, _, _, by decide, rfl, by decide, in_X8, q965, rfl, tyX8_ok, nmX8, rfl, by decide⟩
set_option maxRecDepth 100000 in
theorem owX8_init_0 : xOwn YX8_init 8 0 := ⟨rfl, _, _, rfl, rfl⟩
set_option maxRecDepth 100000 in
theorem fdX8_13 : xFd RX8 13 8 1 (.object "java/lang/String") true := ⟨_, _, _, by decide, rfl, by decide, in_X8, q967, rfl, tyX8_ok, nmX8, rfl, by decide⟩
set_option maxRecDepth 100000 in
theorem owX8_init_1 : xOwn YX8_init 8 1 := ⟨rfl, _, _, rfl, rfl⟩
set_option maxRecDepth 100000 in
theorem fdX8_17 : xFd RX8 17 8 2 (.object "PascalHouse$Type") false := ⟨_, _, _, by decide, rfl, by decide, in_X8, q970, rfl, tyX8_ok, nmX8, rfl, by decide⟩
set_option maxRecDepth 100000 in
theorem cdL_7 : xCd RL 7 0 21 := ⟨_, _, _, by decide, rfl, in_X0, tyX0_ok, q432, q433, q377⟩
set_option maxRecDepth 100000 in
theorem miX0_init : xMi YX0_init 0 := ⟨⟨q436, plainFor_of_name pnX0, mhX0, pd1⟩, q435, rfl, rfl, rfl⟩
set_option maxRecDepth 100000 in
theorem cdL_10 : xCd RL 10 12 131 := ⟨_, _, _, by decide, rfl, in_X12, tyX12_ok, q3198, q3199, q402⟩
set_option maxRecDepth 100000 in
theorem miX12_init : xMi YX12_init 0 := ⟨⟨q3202, plainFor_of_name pnX12, mhX12, pd1⟩, q3201, rfl, rfl, rfl⟩
set_option maxRecDepth 100000 in
theorem pd201 : (parseMethodDescriptor "(IIIII)Z").map (fun s => s.parameters.length) = some 5 := by decide +kernel
set_option maxRecDepth 100000 in
theorem mvX0_feed : xMv YX0_feed 0 5 := ⟨_, _, _, by decide, rfl, ⟨q1469, plainFor_of_name pnX0, mhX0, pd201⟩, q1467, q1468⟩
set_option maxRecDepth 100000 in
theorem mvX12_feed : xMv YX12_feed 12 5 := ⟨_, _, _, by decide, rfl, ⟨q3648, plainFor_of_name pnX12, mhX12, pd201⟩, q3646, q3647⟩
set_option maxRecDepth 100000 in
theorem mvX0_end : xMv YX0_end 0 1 := ⟨_, _, _, by decide, rfl, ⟨q1477, plainFor_of_name pnX0, mhX0, pd34⟩, q1475, q1476⟩
set_option maxRecDepth 100000 in
theorem mvX12_end : xMv YX12_end 12 1 := ⟨_, _, _, by decide, rfl, ⟨q3652, plainFor_of_name pnX12, mhX12, pd34⟩, q3650, q3651⟩
set_option maxRecDepth 100000 in
theorem mvX0_program : xMv YX0_program 0 0 := ⟨_, _, _, by decide, rfl, ⟨q1481, plainFor_of_name pnX0, mhX0, pd3⟩, q1479, q1480⟩
set_option maxRecDepth 100000 in
theorem mvX12_program : xMv YX12_program 12 0 := ⟨_, _, _, by decide, rfl, ⟨q3660, plainFor_of_name pnX12, mhX12, pd3⟩, q3658, q3659⟩
set_option maxRecDepth 100000 in
theorem mvX0_place : xMv YX0_place 0 0 := ⟨_, _, _, by decide, rfl, ⟨q2811, plainFor_of_name pnX0, mhX0, pd3⟩, q2809, q2810⟩
set_option maxRecDepth 100000 in
theorem mvX12_place : xMv YX12_place 12 0 := ⟨_, _, _, by decide, rfl, ⟨q4483, plainFor_of_name pnX12, mhX12, pd3⟩, q4481, q4482⟩
set_option maxRecDepth 100000 in
theorem mvX0_put : xMv YX0_put 0 1 := ⟨_, _, _, by decide, rfl, ⟨q2815, plainFor_of_name pnX0, mhX0, pd7⟩, q2813, q2814⟩
set_option maxRecDepth 100000 in
theorem mvX12_put : xMv YX12_put 12 1 := ⟨_, _, _, by decide, rfl, ⟨q3656, plainFor_of_name pnX12, mhX12, pd7⟩, q3654, q3655⟩
set_option maxRecDepth 100000 in
theorem mvX0_run : xMv YX0_run 0 1 := ⟨_, _, _, by decide, rfl, ⟨q2819, plainFor_of_name pnX0, mhX0, pd7⟩, q2817, q2818⟩
set_option maxRecDepth 100000 in
theorem mvX12_run : xMv YX12_run 12 1 := ⟨_, _, _, by decide, rfl, ⟨q4487, plainFor_of_name pnX12, mhX12, pd7⟩, q4485, q4486⟩
set_option maxRecDepth 100000 in
theorem mvX0_where : xMv YX0_where 0 0 := ⟨_, _, _, by decide, rfl, ⟨q3184, plainFor_of_name pnX0, mhX0, pd3⟩, q3182, q3183⟩
set_option maxRecDepth 100000 in
theorem mvX12_where : xMv YX12_where 12 0 := ⟨_, _, _, by decide, rfl, ⟨q4814, plainFor_of_name pnX12, mhX12, pd3⟩, q4812, q4813⟩
set_option maxRecDepth 100000 in
theorem mvX0_steps : xMv YX0_steps 0 0 := ⟨_, _, _, by decide, rfl, ⟨q3188, plainFor_of_name pnX0, mhX0, pd3⟩, q3186, q3187⟩
set_option maxRecDepth 100000 in
theorem mvX12_steps : xMv YX12_steps 12 0 := ⟨_, _, _, by decide, rfl, ⟨q4818, plainFor_of_name pnX12, mhX12, pd3⟩, q4816, q4817⟩
set_option maxRecDepth 100000 in
theorem mvX0_file : xMv YX0_file 0 2 := ⟨_, _, _, by decide, rfl, ⟨q3192, plainFor_of_name pnX0, mhX0, pd31⟩, q3190, q3191⟩
set_option maxRecDepth 100000 in
theorem mvX12_file : xMv YX12_file 12 2 := ⟨_, _, _, by decide, rfl, ⟨q4822, plainFor_of_name pnX12, mhX12, pd31⟩, q4820, q4821⟩
set_option maxRecDepth 100000 in
theorem mvX0_about : xMv YX0_about 0 1 := ⟨_, _, _, by decide, rfl, ⟨q3196, plainFor_of_name pnX0, mhX0, pd7⟩, q3194, q3195⟩
set_option maxRecDepth 100000 in
theorem mvX12_about : xMv YX12_about 12 1 := ⟨_, _, _, by decide, rfl, ⟨q4826, plainFor_of_name pnX12, mhX12, pd7⟩, q4824, q4825⟩
