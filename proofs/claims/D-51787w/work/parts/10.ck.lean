set_option maxRecDepth 100000
theorem ck_X1 : gg_ck 0 RX1 TX1 8 tyX1 := ⟨rfl, in_X1, tyX1_ok, nmX1⟩
theorem ck_X2 : gg_ck 1 RX2 TX2 8 tyX2 := ⟨rfl, in_X2, tyX2_ok, nmX2⟩
theorem ck_X3 : gg_ck 2 RX3 TX3 7 tyX3 := ⟨rfl, in_X3, tyX3_ok, nmX3⟩
theorem ck_X4 : gg_ck 3 RX4 TX4 3 tyX4 := ⟨rfl, in_X4, tyX4_ok, nmX4⟩
theorem ck_X5 : gg_ck 4 RX5 TX5 28 tyX5 := ⟨rfl, in_X5, tyX5_ok, nmX5⟩
theorem ck_X6 : gg_ck 5 RX6 TX6 8 tyX6 := ⟨rfl, in_X6, tyX6_ok, nmX6⟩
theorem ck_X7 : gg_ck 6 RX7 TX7 8 tyX7 := ⟨rfl, in_X7, tyX7_ok, nmX7⟩
theorem ck_X8 : gg_ck 7 RX8 TX8 13 tyX8 := ⟨rfl, in_X8, tyX8_ok, nmX8⟩
theorem ck_X9 : gg_ck 8 RX9 TX9 0 tyX9 := ⟨rfl, in_X9, fun k h => absurd h (Nat.not_lt_zero k), fun a h => absurd h (Nat.not_lt_zero a)⟩
theorem ck_X10 : gg_ck 9 RX10 TX10 2 tyX10 := ⟨rfl, in_X10, tyX10_ok, nmX10⟩
theorem ck_X11 : gg_ck 10 RX11 TX11 0 tyX11 := ⟨rfl, in_X11, fun k h => absurd h (Nat.not_lt_zero k), fun a h => absurd h (Nat.not_lt_zero a)⟩
theorem ck_J2 : gg_ck 11 RJ2 TJ2 3 tyJ2 := ⟨rfl, in_J2, tyJ2_ok, nmJ2⟩
theorem ck_J8 : gg_ck 12 RJ8 TJ8 4 tyJ8 := ⟨rfl, in_J8, tyJ8_ok, nmJ8⟩
theorem ck_J9 : gg_ck 13 RJ9 TJ9 4 tyJ9 := ⟨rfl, in_J9, tyJ9_ok, nmJ9⟩
theorem ck_J17 : gg_ck 14 RJ17 TJ17 1 tyJ17 := ⟨rfl, in_J17, tyJ17_ok, nmJ17⟩
theorem ck_J19 : gg_ck 15 RJ19 TJ19 4 tyJ19 := ⟨rfl, in_J19, tyJ19_ok, nmJ19⟩
theorem ck_J20 : gg_ck 16 RJ20 TJ20 3 tyJ20 := ⟨rfl, in_J20, tyJ20_ok, nmJ20⟩
theorem ck_J22 : gg_ck 17 RJ22 TJ22 3 tyJ22 := ⟨rfl, in_J22, tyJ22_ok, nmJ22⟩
theorem ck_J26 : gg_ck 18 RJ26 TJ26 4 tyJ26 := ⟨rfl, in_J26, tyJ26_ok, nmJ26⟩
theorem ck_J28 : gg_ck 19 RJ28 TJ28 5 tyJ28 := ⟨rfl, in_J28, tyJ28_ok, nmJ28⟩
theorem ck_J32 : gg_ck 20 RJ32 TJ32 4 tyJ32 := ⟨rfl, in_J32, tyJ32_ok, nmJ32⟩
theorem ck_J37 : gg_ck 21 RJ37 TJ37 3 tyJ37 := ⟨rfl, in_J37, tyJ37_ok, nmJ37⟩
theorem gg_fsX1 : ∀ j, j < 8 → defaultValue (tyX1 j) = vp_V [.null, .int 0, .int 0, .int 0, .null, .null, .null, .null] j := fun j hj => by rcases (show j = 0 ∨ j = 1 ∨ j = 2 ∨ j = 3 ∨ j = 4 ∨ j = 5 ∨ j = 6 ∨ j = 7 by omega) with rfl | rfl | rfl | rfl | rfl | rfl | rfl | rfl <;> rfl
theorem gg_fsX2 : ∀ j, j < 8 → defaultValue (tyX2 j) = vp_V [.null, .null, .null, .null, .null, .int 0, .int 0, .null] j := fun j hj => by rcases (show j = 0 ∨ j = 1 ∨ j = 2 ∨ j = 3 ∨ j = 4 ∨ j = 5 ∨ j = 6 ∨ j = 7 by omega) with rfl | rfl | rfl | rfl | rfl | rfl | rfl | rfl <;> rfl
theorem gg_fsX3 : ∀ j, j < 7 → defaultValue (tyX3 j) = vp_V [.null, .int 0, .int 0, .int 0, .int 0, .int 0, .int 0] j := fun j hj => by rcases (show j = 0 ∨ j = 1 ∨ j = 2 ∨ j = 3 ∨ j = 4 ∨ j = 5 ∨ j = 6 by omega) with rfl | rfl | rfl | rfl | rfl | rfl | rfl <;> rfl
theorem gg_fsX4 : ∀ j, j < 3 → defaultValue (tyX4 j) = vp_V [.int 0, .int 0, .int 0] j := fun j hj => by rcases (show j = 0 ∨ j = 1 ∨ j = 2 by omega) with rfl | rfl | rfl <;> rfl
theorem gg_fsX5 : ∀ j, j < 28 → defaultValue (tyX5 j) = vp_V [.null, .null, .null, .null, .int 0, .int 0, .int 0, .null, .int 0, .null, .null, .int 0, .null, .int 0, .int 0, .int 0, .int 0, .int 0, .int 0, .int 0, .int 0, .int 0, .null, .int 0, .null, .null, .null, .int 0] j := fun j hj => by rcases (show j = 0 ∨ j = 1 ∨ j = 2 ∨ j = 3 ∨ j = 4 ∨ j = 5 ∨ j = 6 ∨ j = 7 ∨ j = 8 ∨ j = 9 ∨ j = 10 ∨ j = 11 ∨ j = 12 ∨ j = 13 ∨ j = 14 ∨ j = 15 ∨ j = 16 ∨ j = 17 ∨ j = 18 ∨ j = 19 ∨ j = 20 ∨ j = 21 ∨ j = 22 ∨ j = 23 ∨ j = 24 ∨ j = 25 ∨ j = 26 ∨ j = 27 by omega) with rfl | rfl | rfl | rfl | rfl | rfl | rfl | rfl | rfl | rfl | rfl | rfl | rfl | rfl | rfl | rfl | rfl | rfl | rfl | rfl | rfl | rfl | rfl | rfl | rfl | rfl | rfl | rfl <;> rfl
theorem gg_fsX6 : ∀ j, j < 8 → defaultValue (tyX6 j) = vp_V [.int 0, .null, .int 0, .int 0, .int 0, .int 0, .null, .null] j := fun j hj => by rcases (show j = 0 ∨ j = 1 ∨ j = 2 ∨ j = 3 ∨ j = 4 ∨ j = 5 ∨ j = 6 ∨ j = 7 by omega) with rfl | rfl | rfl | rfl | rfl | rfl | rfl | rfl <;> rfl
theorem gg_fsX7 : ∀ j, j < 8 → defaultValue (tyX7 j) = vp_V [.null, .null, .null, .null, .null, .int 0, .int 0, .int 0] j := fun j hj => by rcases (show j = 0 ∨ j = 1 ∨ j = 2 ∨ j = 3 ∨ j = 4 ∨ j = 5 ∨ j = 6 ∨ j = 7 by omega) with rfl | rfl | rfl | rfl | rfl | rfl | rfl | rfl <;> rfl
theorem gg_fsX8 : ∀ j, j < 13 → defaultValue (tyX8 j) = vp_V [.int 0, .int 0, .int 0, .null, .null, .int 0, .int 0, .int 0, .int 0, .int 0, .int 0, .int 0, .int 0] j := fun j hj => by rcases (show j = 0 ∨ j = 1 ∨ j = 2 ∨ j = 3 ∨ j = 4 ∨ j = 5 ∨ j = 6 ∨ j = 7 ∨ j = 8 ∨ j = 9 ∨ j = 10 ∨ j = 11 ∨ j = 12 by omega) with rfl | rfl | rfl | rfl | rfl | rfl | rfl | rfl | rfl | rfl | rfl | rfl | rfl <;> rfl
theorem gg_fsX9 : ∀ j, j < 0 → defaultValue (tyX9 j) = vp_V [] j := fun j h => absurd h (Nat.not_lt_zero j)
theorem gg_fsX10 : ∀ j, j < 2 → defaultValue (tyX10 j) = vp_V [.int 0, .int 0] j := fun j hj => by rcases (show j = 0 ∨ j = 1 by omega) with rfl | rfl <;> rfl
theorem gg_fsX11 : ∀ j, j < 0 → defaultValue (tyX11 j) = vp_V [] j := fun j h => absurd h (Nat.not_lt_zero j)
theorem gg_fsJ2 : ∀ j, j < 3 → defaultValue (tyJ2 j) = vp_V [.int 0, .null, .int 0] j := fun j hj => by rcases (show j = 0 ∨ j = 1 ∨ j = 2 by omega) with rfl | rfl | rfl <;> rfl
theorem gg_fsJ8 : ∀ j, j < 4 → defaultValue (tyJ8 j) = vp_V [.null, .int 0, .int 0, .int 0] j := fun j hj => by rcases (show j = 0 ∨ j = 1 ∨ j = 2 ∨ j = 3 by omega) with rfl | rfl | rfl | rfl <;> rfl
theorem gg_fsJ9 : ∀ j, j < 4 → defaultValue (tyJ9 j) = vp_V [.null, .int 0, .int 0, .int 0] j := fun j hj => by rcases (show j = 0 ∨ j = 1 ∨ j = 2 ∨ j = 3 by omega) with rfl | rfl | rfl | rfl <;> rfl
theorem gg_fsJ17 : ∀ j, j < 1 → defaultValue (tyJ17 j) = vp_V [.int 0] j := fun j hj => by rcases (show j = 0 by omega) with rfl <;> rfl
theorem gg_fsJ19 : ∀ j, j < 4 → defaultValue (tyJ19 j) = vp_V [.int 0, .int 0, .null, .null] j := fun j hj => by rcases (show j = 0 ∨ j = 1 ∨ j = 2 ∨ j = 3 by omega) with rfl | rfl | rfl | rfl <;> rfl
theorem gg_fsJ20 : ∀ j, j < 3 → defaultValue (tyJ20 j) = vp_V [.null, .null, .null] j := fun j hj => by rcases (show j = 0 ∨ j = 1 ∨ j = 2 by omega) with rfl | rfl | rfl <;> rfl
theorem gg_fsJ22 : ∀ j, j < 3 → defaultValue (tyJ22 j) = vp_V [.null, .int 0, .int 0] j := fun j hj => by rcases (show j = 0 ∨ j = 1 ∨ j = 2 by omega) with rfl | rfl | rfl <;> rfl
theorem gg_fsJ26 : ∀ j, j < 4 → defaultValue (tyJ26 j) = vp_V [.int 0, .int 0, .int 0, .null] j := fun j hj => by rcases (show j = 0 ∨ j = 1 ∨ j = 2 ∨ j = 3 by omega) with rfl | rfl | rfl | rfl <;> rfl
theorem gg_fsJ28 : ∀ j, j < 5 → defaultValue (tyJ28 j) = vp_V [.null, .null, .int 0, .int 0, .null] j := fun j hj => by rcases (show j = 0 ∨ j = 1 ∨ j = 2 ∨ j = 3 ∨ j = 4 by omega) with rfl | rfl | rfl | rfl | rfl <;> rfl
theorem gg_fsJ32 : ∀ j, j < 4 → defaultValue (tyJ32 j) = vp_V [.null, .int 0, .null, .int 0] j := fun j hj => by rcases (show j = 0 ∨ j = 1 ∨ j = 2 ∨ j = 3 by omega) with rfl | rfl | rfl | rfl <;> rfl
theorem gg_fsJ37 : ∀ j, j < 3 → defaultValue (tyJ37 j) = vp_V [.null, .int 0, .int 0] j := fun j hj => by rcases (show j = 0 ∨ j = 1 ∨ j = 2 by omega) with rfl | rfl | rfl <;> rfl
theorem nq1294 : (Jvm.Cond.declares ({ cls := "java/util/AbstractCollection", name := "size", desc := "()I" } : Jvm.MethodName)) ∈ gg_nw := gg_nwi q1294 rfl
theorem nq2038 : (Jvm.Cond.declares ({ cls := "java/util/AbstractCollection", name := "isEmpty", desc := "()Z" } : Jvm.MethodName)) ∈ gg_nw := gg_nwi q2038 rfl
theorem nq1198 : (Jvm.Cond.declares ({ cls := "java/util/AbstractList", name := "listIterator", desc := "()Ljava/util/ListIterator;" } : Jvm.MethodName)) ∈ gg_nw := gg_nwi q1198 rfl
theorem nq1281 : (Jvm.Cond.declares ({ cls := "java/util/AbstractList", name := "listIterator", desc := "(I)Ljava/util/ListIterator;" } : Jvm.MethodName)) ∈ gg_nw := gg_nwi q1281 rfl
theorem nq1327 : (Jvm.Cond.declares ({ cls := "java/util/AbstractList", name := "get", desc := "(I)Ljava/lang/Object;" } : Jvm.MethodName)) ∈ gg_nw := gg_nwi q1327 rfl
theorem nq2129 : (Jvm.Cond.declares ({ cls := "java/util/AbstractList", name := "remove", desc := "(I)Ljava/lang/Object;" } : Jvm.MethodName)) ∈ gg_nw := gg_nwi q2129 rfl
theorem nq1847 : (Jvm.Cond.castable "java/lang/Integer" "java/lang/Comparable") ∈ gg_nw := gg_nwi q1847 rfl
theorem nq1849 : (Jvm.Cond.unhidden "java/lang/Integer" "compareTo" "(Ljava/lang/Object;)I") ∈ gg_nw := gg_nwi q1849 rfl
theorem nq1851 : (Jvm.Cond.publicMethod ({ cls := "java/lang/Integer", name := "compareTo", desc := "(Ljava/lang/Object;)I" } : Jvm.MethodName)) ∈ gg_nw := gg_nwi q1851 rfl
theorem nq3511 : (Jvm.Cond.castable "java/lang/Integer" "java/lang/Object") ∈ gg_nw := gg_nwi q3511 rfl
theorem nq1192 : (Jvm.Cond.declares ({ cls := "java/util/AbstractSequentialList", name := "iterator", desc := "()Ljava/util/Iterator;" } : Jvm.MethodName)) ∈ gg_nw := gg_nwi q1192 rfl
theorem nq2390 : (Jvm.Cond.publicMethod ({ cls := "java/util/AbstractSequentialList", name := "iterator", desc := "()Ljava/util/Iterator;" } : Jvm.MethodName)) ∈ gg_nw := gg_nwi q2390 rfl
theorem nq750 : (Jvm.Cond.castable "java/util/LinkedList" "java/util/List") ∈ gg_nw := gg_nwi q750 rfl
theorem nq752 : (Jvm.Cond.unhidden "java/util/LinkedList" "add" "(Ljava/lang/Object;)Z") ∈ gg_nw := gg_nwi q752 rfl
theorem nq754 : (Jvm.Cond.publicMethod ({ cls := "java/util/LinkedList", name := "add", desc := "(Ljava/lang/Object;)Z" } : Jvm.MethodName)) ∈ gg_nw := gg_nwi q754 rfl
theorem nq1049 : (Jvm.Cond.unhidden "java/util/LinkedList" "size" "()I") ∈ gg_nw := gg_nwi q1049 rfl
theorem nq1051 : (Jvm.Cond.publicMethod ({ cls := "java/util/LinkedList", name := "size", desc := "()I" } : Jvm.MethodName)) ∈ gg_nw := gg_nwi q1051 rfl
theorem nq1118 : (Jvm.Cond.unhidden "java/util/LinkedList" "get" "(I)Ljava/lang/Object;") ∈ gg_nw := gg_nwi q1118 rfl
theorem nq1120 : (Jvm.Cond.publicMethod ({ cls := "java/util/LinkedList", name := "get", desc := "(I)Ljava/lang/Object;" } : Jvm.MethodName)) ∈ gg_nw := gg_nwi q1120 rfl
theorem nq2389 : (Jvm.Cond.unhidden "java/util/LinkedList" "iterator" "()Ljava/util/Iterator;") ∈ gg_nw := gg_nwi q2389 rfl
theorem nq3497 : (Jvm.Cond.castable "java/util/LinkedList" "java/lang/Object") ∈ gg_nw := gg_nwi q3497 rfl
theorem nq683 : (Jvm.Cond.castable "java/util/ArrayList" "java/util/List") ∈ gg_nw := gg_nwi q683 rfl
theorem nq685 : (Jvm.Cond.unhidden "java/util/ArrayList" "add" "(Ljava/lang/Object;)Z") ∈ gg_nw := gg_nwi q685 rfl
theorem nq687 : (Jvm.Cond.publicMethod ({ cls := "java/util/ArrayList", name := "add", desc := "(Ljava/lang/Object;)Z" } : Jvm.MethodName)) ∈ gg_nw := gg_nwi q687 rfl
theorem nq1044 : (Jvm.Cond.unhidden "java/util/ArrayList" "size" "()I") ∈ gg_nw := gg_nwi q1044 rfl
theorem nq1046 : (Jvm.Cond.publicMethod ({ cls := "java/util/ArrayList", name := "size", desc := "()I" } : Jvm.MethodName)) ∈ gg_nw := gg_nwi q1046 rfl
theorem nq1105 : (Jvm.Cond.unhidden "java/util/ArrayList" "get" "(I)Ljava/lang/Object;") ∈ gg_nw := gg_nwi q1105 rfl
theorem nq1107 : (Jvm.Cond.publicMethod ({ cls := "java/util/ArrayList", name := "get", desc := "(I)Ljava/lang/Object;" } : Jvm.MethodName)) ∈ gg_nw := gg_nwi q1107 rfl
theorem nq2376 : (Jvm.Cond.unhidden "java/util/ArrayList" "iterator" "()Ljava/util/Iterator;") ∈ gg_nw := gg_nwi q2376 rfl
theorem nq2378 : (Jvm.Cond.publicMethod ({ cls := "java/util/ArrayList", name := "iterator", desc := "()Ljava/util/Iterator;" } : Jvm.MethodName)) ∈ gg_nw := gg_nwi q2378 rfl
theorem nq3493 : (Jvm.Cond.castable "java/util/ArrayList" "java/lang/Object") ∈ gg_nw := gg_nwi q3493 rfl
theorem nq3499 : (Jvm.Cond.castable "java/util/LinkedList$Node" "java/lang/Object") ∈ gg_nw := gg_nwi q3499 rfl
theorem nq3501 : (Jvm.Cond.castable "java/util/ArrayDeque" "java/lang/Object") ∈ gg_nw := gg_nwi q3501 rfl
theorem nq1132 : (Jvm.Cond.castable "java/lang/IndexOutOfBoundsException" "java/lang/IndexOutOfBoundsException") ∈ gg_nw := gg_nwi q1132 rfl
theorem nq2442 : (Jvm.Cond.declares ({ cls := "java/lang/IndexOutOfBoundsException", name := "<init>", desc := "()V" } : Jvm.MethodName)) ∈ gg_nw := gg_nwi q2442 rfl
theorem nq2443 : (Jvm.Cond.declares ({ cls := "java/lang/IndexOutOfBoundsException", name := "<init>", desc := "(Ljava/lang/String;)V" } : Jvm.MethodName)) ∈ gg_nw := gg_nwi q2443 rfl
theorem nq3506 : (Jvm.Cond.castable "java/lang/IndexOutOfBoundsException" "java/lang/Object") ∈ gg_nw := gg_nwi q3506 rfl
theorem nq1290 : (Jvm.Cond.publicMethod ({ cls := "java/util/AbstractList$Itr", name := "hasNext", desc := "()Z" } : Jvm.MethodName)) ∈ gg_nw := gg_nwi q1290 rfl
theorem nq1319 : (Jvm.Cond.publicMethod ({ cls := "java/util/AbstractList$Itr", name := "next", desc := "()Ljava/lang/Object;" } : Jvm.MethodName)) ∈ gg_nw := gg_nwi q1319 rfl
theorem nq2107 : (Jvm.Cond.publicMethod ({ cls := "java/util/AbstractList$Itr", name := "remove", desc := "()V" } : Jvm.MethodName)) ∈ gg_nw := gg_nwi q2107 rfl
theorem nq560 : (Jvm.Cond.fieldLinkNest "java/util/ArrayList$Itr" (28 : Nat) "java/util/ArrayList" "size" "I" "java/util/ArrayList") ∈ gg_nw := gg_nwi q560 rfl
theorem nq1297 : (Jvm.Cond.castable "java/util/ArrayList$Itr" "java/util/Iterator") ∈ gg_nw := gg_nwi q1297 rfl
theorem nq1299 : (Jvm.Cond.unhidden "java/util/ArrayList$Itr" "hasNext" "()Z") ∈ gg_nw := gg_nwi q1299 rfl
theorem nq1301 : (Jvm.Cond.publicMethod ({ cls := "java/util/ArrayList$Itr", name := "hasNext", desc := "()Z" } : Jvm.MethodName)) ∈ gg_nw := gg_nwi q1301 rfl
theorem nq1397 : (Jvm.Cond.unhidden "java/util/ArrayList$Itr" "next" "()Ljava/lang/Object;") ∈ gg_nw := gg_nwi q1397 rfl
theorem nq1399 : (Jvm.Cond.publicMethod ({ cls := "java/util/ArrayList$Itr", name := "next", desc := "()Ljava/lang/Object;" } : Jvm.MethodName)) ∈ gg_nw := gg_nwi q1399 rfl
theorem nq2146 : (Jvm.Cond.unhidden "java/util/ArrayList$Itr" "remove" "()V") ∈ gg_nw := gg_nwi q2146 rfl
theorem nq2148 : (Jvm.Cond.publicMethod ({ cls := "java/util/ArrayList$Itr", name := "remove", desc := "()V" } : Jvm.MethodName)) ∈ gg_nw := gg_nwi q2148 rfl
theorem nq3519 : (Jvm.Cond.castable "java/util/ArrayList$Itr" "java/lang/Object") ∈ gg_nw := gg_nwi q3519 rfl
theorem nq1303 : (Jvm.Cond.castable "java/util/ArrayList$ListItr" "java/util/Iterator") ∈ gg_nw := gg_nwi q1303 rfl
theorem nq1305 : (Jvm.Cond.unhidden "java/util/ArrayList$ListItr" "hasNext" "()Z") ∈ gg_nw := gg_nwi q1305 rfl
theorem nq1419 : (Jvm.Cond.unhidden "java/util/ArrayList$ListItr" "next" "()Ljava/lang/Object;") ∈ gg_nw := gg_nwi q1419 rfl
theorem nq2156 : (Jvm.Cond.unhidden "java/util/ArrayList$ListItr" "remove" "()V") ∈ gg_nw := gg_nwi q2156 rfl
theorem nq3508 : (Jvm.Cond.castable "java/util/ArrayList$ListItr" "java/lang/Object") ∈ gg_nw := gg_nwi q3508 rfl
theorem nq1306 : (Jvm.Cond.castable "java/util/LinkedList$ListItr" "java/util/Iterator") ∈ gg_nw := gg_nwi q1306 rfl
theorem nq1308 : (Jvm.Cond.unhidden "java/util/LinkedList$ListItr" "hasNext" "()Z") ∈ gg_nw := gg_nwi q1308 rfl
theorem nq1310 : (Jvm.Cond.publicMethod ({ cls := "java/util/LinkedList$ListItr", name := "hasNext", desc := "()Z" } : Jvm.MethodName)) ∈ gg_nw := gg_nwi q1310 rfl
theorem nq1421 : (Jvm.Cond.unhidden "java/util/LinkedList$ListItr" "next" "()Ljava/lang/Object;") ∈ gg_nw := gg_nwi q1421 rfl
theorem nq1423 : (Jvm.Cond.publicMethod ({ cls := "java/util/LinkedList$ListItr", name := "next", desc := "()Ljava/lang/Object;" } : Jvm.MethodName)) ∈ gg_nw := gg_nwi q1423 rfl
theorem nq2158 : (Jvm.Cond.unhidden "java/util/LinkedList$ListItr" "remove" "()V") ∈ gg_nw := gg_nwi q2158 rfl
theorem nq2160 : (Jvm.Cond.publicMethod ({ cls := "java/util/LinkedList$ListItr", name := "remove", desc := "()V" } : Jvm.MethodName)) ∈ gg_nw := gg_nwi q2160 rfl
theorem nq3509 : (Jvm.Cond.castable "java/util/LinkedList$ListItr" "java/lang/Object") ∈ gg_nw := gg_nwi q3509 rfl
theorem nq1333 : (Jvm.Cond.castable "java/util/NoSuchElementException" "java/util/NoSuchElementException") ∈ gg_nw := gg_nwi q1333 rfl
theorem nq3510 : (Jvm.Cond.castable "java/util/NoSuchElementException" "java/lang/Object") ∈ gg_nw := gg_nwi q3510 rfl
theorem nq245 : (Jvm.Cond.declares ({ cls := "java/lang/Throwable", name := "<init>", desc := "()V" } : Jvm.MethodName)) ∈ gg_nw := gg_nwi q245 rfl
theorem nq246 : (Jvm.Cond.declares ({ cls := "java/lang/Throwable", name := "<init>", desc := "(Ljava/lang/String;)V" } : Jvm.MethodName)) ∈ gg_nw := gg_nwi q246 rfl
theorem nq3524 : (Jvm.Cond.castable "java/lang/Throwable" "java/lang/Object") ∈ gg_nw := gg_nwi q3524 rfl
theorem nq1545 : (Jvm.Cond.castable "java/lang/IllegalStateException" "java/lang/IllegalStateException") ∈ gg_nw := gg_nwi q1545 rfl
theorem nq3512 : (Jvm.Cond.castable "java/lang/IllegalStateException" "java/lang/Object") ∈ gg_nw := gg_nwi q3512 rfl
theorem nq3514 : (Jvm.Cond.castable "java/util/PriorityQueue" "java/lang/Object") ∈ gg_nw := gg_nwi q3514 rfl
theorem nq3517 : (Jvm.Cond.castable "jdk/internal/misc/Unsafe" "java/lang/Object") ∈ gg_nw := gg_nwi q3517 rfl
theorem nq2132 : (Jvm.Cond.castable "java/util/ConcurrentModificationException" "java/util/ConcurrentModificationException") ∈ gg_nw := gg_nwi q2132 rfl
theorem nq3518 : (Jvm.Cond.castable "java/util/ConcurrentModificationException" "java/lang/Object") ∈ gg_nw := gg_nwi q3518 rfl
theorem nq2441 : (Jvm.Cond.castable "java/lang/ArrayIndexOutOfBoundsException" "java/lang/ArrayIndexOutOfBoundsException") ∈ gg_nw := gg_nwi q2441 rfl
theorem nq3488 : (Jvm.Cond.castable "java/lang/ArrayIndexOutOfBoundsException" "java/lang/IndexOutOfBoundsException") ∈ gg_nw := gg_nwi q3488 rfl
theorem nq3520 : (Jvm.Cond.castable "java/lang/ArrayIndexOutOfBoundsException" "java/lang/Object") ∈ gg_nw := gg_nwi q3520 rfl
theorem nq3522 : (Jvm.Cond.castable "java/util/BitSet" "java/lang/Object") ∈ gg_nw := gg_nwi q3522 rfl
theorem nq3489 : (Jvm.Cond.castable "java/lang/StringIndexOutOfBoundsException" "java/lang/IndexOutOfBoundsException") ∈ gg_nw := gg_nwi q3489 rfl
theorem nq3523 : (Jvm.Cond.castable "java/lang/StringIndexOutOfBoundsException" "java/lang/Object") ∈ gg_nw := gg_nwi q3523 rfl
theorem nq3527 : (Jvm.Cond.declares ({ cls := "java/lang/Object", name := "getClass", desc := "()Ljava/lang/Class;" } : Jvm.MethodName)) ∈ gg_nw := gg_nwi q3527 rfl
theorem nq243 : (Jvm.Cond.declares ({ cls := "java/lang/Exception", name := "<init>", desc := "()V" } : Jvm.MethodName)) ∈ gg_nw := gg_nwi q243 rfl
theorem nq244 : (Jvm.Cond.declares ({ cls := "java/lang/Exception", name := "<init>", desc := "(Ljava/lang/String;)V" } : Jvm.MethodName)) ∈ gg_nw := gg_nwi q244 rfl
theorem nq991 : (Jvm.Cond.castable "java/lang/System$2" "jdk/internal/access/JavaLangAccess") ∈ gg_nw := gg_nwi q991 rfl
theorem nq993 : (Jvm.Cond.unhidden "java/lang/System$2" "getUTF16Char" "([BI)C") ∈ gg_nw := gg_nwi q993 rfl
theorem nq995 : (Jvm.Cond.publicMethod ({ cls := "java/lang/System$2", name := "getUTF16Char", desc := "([BI)C" } : Jvm.MethodName)) ∈ gg_nw := gg_nwi q995 rfl
theorem nq3504 : (Jvm.Cond.castable "java/lang/System$2" "java/lang/Object") ∈ gg_nw := gg_nwi q3504 rfl
theorem nq241 : (Jvm.Cond.declares ({ cls := "java/lang/RuntimeException", name := "<init>", desc := "()V" } : Jvm.MethodName)) ∈ gg_nw := gg_nwi q241 rfl
theorem nq242 : (Jvm.Cond.declares ({ cls := "java/lang/RuntimeException", name := "<init>", desc := "(Ljava/lang/String;)V" } : Jvm.MethodName)) ∈ gg_nw := gg_nwi q242 rfl
theorem nq240 : (Jvm.Cond.castable "java/lang/IllegalArgumentException" "java/lang/IllegalArgumentException") ∈ gg_nw := gg_nwi q240 rfl
theorem nq3494 : (Jvm.Cond.castable "java/lang/IllegalArgumentException" "java/lang/Object") ∈ gg_nw := gg_nwi q3494 rfl
theorem nq2004 : (Jvm.Cond.castable "java/lang/StringBuilder" "java/lang/Comparable") ∈ gg_nw := gg_nwi q2004 rfl
theorem nq2006 : (Jvm.Cond.unhidden "java/lang/StringBuilder" "compareTo" "(Ljava/lang/Object;)I") ∈ gg_nw := gg_nwi q2006 rfl
theorem nq2008 : (Jvm.Cond.publicMethod ({ cls := "java/lang/StringBuilder", name := "compareTo", desc := "(Ljava/lang/Object;)I" } : Jvm.MethodName)) ∈ gg_nw := gg_nwi q2008 rfl
theorem nq3495 : (Jvm.Cond.castable "java/lang/StringBuilder" "java/lang/Object") ∈ gg_nw := gg_nwi q3495 rfl
theorem nq1858 : (Jvm.Cond.castable "java/lang/String" "java/lang/Comparable") ∈ gg_nw := gg_nwi q1858 rfl
theorem nq1860 : (Jvm.Cond.unhidden "java/lang/String" "compareTo" "(Ljava/lang/Object;)I") ∈ gg_nw := gg_nwi q1860 rfl
theorem nq1862 : (Jvm.Cond.publicMethod ({ cls := "java/lang/String", name := "compareTo", desc := "(Ljava/lang/Object;)I" } : Jvm.MethodName)) ∈ gg_nw := gg_nwi q1862 rfl
theorem nq3496 : (Jvm.Cond.castable "java/lang/String" "java/lang/Object") ∈ gg_nw := gg_nwi q3496 rfl
theorem nq218 : (Jvm.Cond.methodLinkNest "WhistlePosts" (55 : Nat) ({ cls := "WhistlePosts$World", name := "<init>", desc := "()V" } : Jvm.MethodName) "WhistlePosts") ∈ gg_nw := gg_nwi q218 rfl
theorem nq600 : (Jvm.Cond.fieldLinkNest "WhistlePosts" (182 : Nat) "WhistlePosts$World" "roofs" "Ljava/util/List;" "WhistlePosts") ∈ gg_nw := gg_nwi q600 rfl
theorem nq602 : (Jvm.Cond.fieldLinkNest "WhistlePosts" (73 : Nat) "WhistlePosts$World" "ways" "Ljava/util/LinkedList;" "WhistlePosts") ∈ gg_nw := gg_nwi q602 rfl
theorem nq605 : (Jvm.Cond.fieldLinkNest "WhistlePosts" (161 : Nat) "WhistlePosts$World" "tunes" "Ljava/util/List;" "WhistlePosts") ∈ gg_nw := gg_nwi q605 rfl
theorem nq607 : (Jvm.Cond.fieldLinkNest "WhistlePosts" (214 : Nat) "WhistlePosts$World" "set" "[I" "WhistlePosts") ∈ gg_nw := gg_nwi q607 rfl
theorem nq609 : (Jvm.Cond.fieldLinkNest "WhistlePosts" (230 : Nat) "WhistlePosts$World" "accounts" "[I" "WhistlePosts") ∈ gg_nw := gg_nwi q609 rfl
theorem nq611 : (Jvm.Cond.fieldLinkNest "WhistlePosts" (201 : Nat) "WhistlePosts$World" "time" "I" "WhistlePosts") ∈ gg_nw := gg_nwi q611 rfl
theorem nq641 : (Jvm.Cond.fieldLinkNest "WhistlePosts" (243 : Nat) "WhistlePosts$Roof" "name" "Ljava/lang/String;" "WhistlePosts") ∈ gg_nw := gg_nwi q641 rfl
theorem nq644 : (Jvm.Cond.fieldLinkNest "WhistlePosts" (261 : Nat) "WhistlePosts$Roof" "breath" "I" "WhistlePosts") ∈ gg_nw := gg_nwi q644 rfl
theorem nq647 : (Jvm.Cond.fieldLinkNest "WhistlePosts" (264 : Nat) "WhistlePosts$Roof" "ear" "I" "WhistlePosts") ∈ gg_nw := gg_nwi q647 rfl
theorem nq650 : (Jvm.Cond.fieldLinkNest "WhistlePosts" (267 : Nat) "WhistlePosts$Roof" "fee" "I" "WhistlePosts") ∈ gg_nw := gg_nwi q650 rfl
theorem nq653 : (Jvm.Cond.fieldLinkNest "WhistlePosts" (204 : Nat) "WhistlePosts$Roof" "purse" "I" "WhistlePosts") ∈ gg_nw := gg_nwi q653 rfl
theorem nq656 : (Jvm.Cond.fieldLinkNest "WhistlePosts" (198 : Nat) "WhistlePosts$Roof" "busy" "I" "WhistlePosts") ∈ gg_nw := gg_nwi q656 rfl
theorem nq659 : (Jvm.Cond.fieldLinkNest "WhistlePosts" (281 : Nat) "WhistlePosts$Roof" "whistled" "I" "WhistlePosts") ∈ gg_nw := gg_nwi q659 rfl
theorem nq786 : (Jvm.Cond.methodLinkNest "WhistlePosts" (79 : Nat) ({ cls := "WhistlePosts$Way", name := "<init>", desc := "(III)V" } : Jvm.MethodName) "WhistlePosts") ∈ gg_nw := gg_nwi q786 rfl
theorem nq1076 : (Jvm.Cond.fieldLinkNest "WhistlePosts" (101 : Nat) "WhistlePosts$TextError" "code" "I" "WhistlePosts") ∈ gg_nw := gg_nwi q1076 rfl
theorem nq1078 : (Jvm.Cond.fieldLinkNest "WhistlePosts" (106 : Nat) "WhistlePosts$TextError" "offset" "I" "WhistlePosts") ∈ gg_nw := gg_nwi q1078 rfl
theorem nq1570 : (Jvm.Cond.fieldLinkNest "WhistlePosts" (372 : Nat) "WhistlePosts$Tune" "number" "I" "WhistlePosts") ∈ gg_nw := gg_nwi q1570 rfl
theorem nq1573 : (Jvm.Cond.fieldLinkNest "WhistlePosts" (305 : Nat) "WhistlePosts$Tune" "sender" "I" "WhistlePosts") ∈ gg_nw := gg_nwi q1573 rfl
theorem nq1576 : (Jvm.Cond.fieldLinkNest "WhistlePosts" (310 : Nat) "WhistlePosts$Tune" "goal" "I" "WhistlePosts") ∈ gg_nw := gg_nwi q1576 rfl
theorem nq1578 : (Jvm.Cond.fieldLinkNest "WhistlePosts" (347 : Nat) "WhistlePosts$Tune" "sent" "[I" "WhistlePosts") ∈ gg_nw := gg_nwi q1578 rfl
theorem nq1580 : (Jvm.Cond.fieldLinkNest "WhistlePosts" (344 : Nat) "WhistlePosts$Tune" "heard" "[I" "WhistlePosts") ∈ gg_nw := gg_nwi q1580 rfl
theorem nq1582 : (Jvm.Cond.fieldLinkNest "WhistlePosts" (325 : Nat) "WhistlePosts$Tune" "isReply" "Z" "WhistlePosts") ∈ gg_nw := gg_nwi q1582 rfl
theorem nq1585 : (Jvm.Cond.fieldLinkNest "WhistlePosts" (329 : Nat) "WhistlePosts$Tune" "wants" "Z" "WhistlePosts") ∈ gg_nw := gg_nwi q1585 rfl
theorem nq1588 : (Jvm.Cond.fieldLinkNest "WhistlePosts" (319 : Nat) "WhistlePosts$Tune" "at" "I" "WhistlePosts") ∈ gg_nw := gg_nwi q1588 rfl
theorem nq1591 : (Jvm.Cond.fieldLinkNest "WhistlePosts" (316 : Nat) "WhistlePosts$Tune" "state" "I" "WhistlePosts") ∈ gg_nw := gg_nwi q1591 rfl
theorem nq1594 : (Jvm.Cond.fieldLinkNest "WhistlePosts" (322 : Nat) "WhistlePosts$Tune" "end" "I" "WhistlePosts") ∈ gg_nw := gg_nwi q1594 rfl
theorem nq1599 : (Jvm.Cond.fieldLinkNest "WhistlePosts" (332 : Nat) "WhistlePosts$Tune" "tries" "I" "WhistlePosts") ∈ gg_nw := gg_nwi q1599 rfl
theorem nq1602 : (Jvm.Cond.fieldLinkNest "WhistlePosts" (341 : Nat) "WhistlePosts$Tune" "hops" "I" "WhistlePosts") ∈ gg_nw := gg_nwi q1602 rfl
theorem nq2634 : (Jvm.Cond.methodLinkNest "WhistlePosts" (354 : Nat) ({ cls := "WhistlePosts$Dearer", name := "<init>", desc := "()V" } : Jvm.MethodName) "WhistlePosts") ∈ gg_nw := gg_nwi q2634 rfl
theorem nq3491 : (Jvm.Cond.castable "WhistlePosts" "java/lang/Object") ∈ gg_nw := gg_nwi q3491 rfl
theorem nq3516 : (Jvm.Cond.castable "WhistlePosts$Stop" "java/lang/Object") ∈ gg_nw := gg_nwi q3516 rfl
theorem nq1801 : (Jvm.Cond.castable "WhistlePosts$Dearer" "java/util/Comparator") ∈ gg_nw := gg_nwi q1801 rfl
theorem nq1803 : (Jvm.Cond.unhidden "WhistlePosts$Dearer" "compare" "(Ljava/lang/Object;Ljava/lang/Object;)I") ∈ gg_nw := gg_nwi q1803 rfl
theorem nq1805 : (Jvm.Cond.publicMethod ({ cls := "WhistlePosts$Dearer", name := "compare", desc := "(Ljava/lang/Object;Ljava/lang/Object;)I" } : Jvm.MethodName)) ∈ gg_nw := gg_nwi q1805 rfl
theorem nq3521 : (Jvm.Cond.castable "WhistlePosts$Dearer" "java/lang/Object") ∈ gg_nw := gg_nwi q3521 rfl
theorem nq640 : (Jvm.Cond.fieldLinkNest "WhistlePosts$World" (107 : Nat) "WhistlePosts$Roof" "name" "Ljava/lang/String;" "WhistlePosts") ∈ gg_nw := gg_nwi q640 rfl
theorem nq643 : (Jvm.Cond.fieldLinkNest "WhistlePosts$World" (293 : Nat) "WhistlePosts$Roof" "breath" "I" "WhistlePosts") ∈ gg_nw := gg_nwi q643 rfl
theorem nq646 : (Jvm.Cond.fieldLinkNest "WhistlePosts$World" (187 : Nat) "WhistlePosts$Roof" "ear" "I" "WhistlePosts") ∈ gg_nw := gg_nwi q646 rfl
theorem nq649 : (Jvm.Cond.fieldLinkNest "WhistlePosts$World" (261 : Nat) "WhistlePosts$Roof" "fee" "I" "WhistlePosts") ∈ gg_nw := gg_nwi q649 rfl
theorem nq652 : (Jvm.Cond.fieldLinkNest "WhistlePosts$World" (116 : Nat) "WhistlePosts$Roof" "purse" "I" "WhistlePosts") ∈ gg_nw := gg_nwi q652 rfl
theorem nq655 : (Jvm.Cond.fieldLinkNest "WhistlePosts$World" (281 : Nat) "WhistlePosts$Roof" "busy" "I" "WhistlePosts") ∈ gg_nw := gg_nwi q655 rfl
theorem nq658 : (Jvm.Cond.fieldLinkNest "WhistlePosts$World" (287 : Nat) "WhistlePosts$Roof" "whistled" "I" "WhistlePosts") ∈ gg_nw := gg_nwi q658 rfl
theorem nq1540 : (Jvm.Cond.methodLinkNest "WhistlePosts$World" (198 : Nat) ({ cls := "WhistlePosts", name := "needState", desc := "(Z)V" } : Jvm.MethodName) "WhistlePosts") ∈ gg_nw := gg_nwi q1540 rfl
theorem nq1572 : (Jvm.Cond.fieldLinkNest "WhistlePosts$World" (218 : Nat) "WhistlePosts$Tune" "sender" "I" "WhistlePosts") ∈ gg_nw := gg_nwi q1572 rfl
theorem nq1575 : (Jvm.Cond.fieldLinkNest "WhistlePosts$World" (231 : Nat) "WhistlePosts$Tune" "goal" "I" "WhistlePosts") ∈ gg_nw := gg_nwi q1575 rfl
theorem nq1584 : (Jvm.Cond.fieldLinkNest "WhistlePosts$World" (227 : Nat) "WhistlePosts$Tune" "wants" "Z" "WhistlePosts") ∈ gg_nw := gg_nwi q1584 rfl
theorem nq1587 : (Jvm.Cond.fieldLinkNest "WhistlePosts$World" (221 : Nat) "WhistlePosts$Tune" "at" "I" "WhistlePosts") ∈ gg_nw := gg_nwi q1587 rfl
theorem nq1590 : (Jvm.Cond.fieldLinkNest "WhistlePosts$World" (224 : Nat) "WhistlePosts$Tune" "state" "I" "WhistlePosts") ∈ gg_nw := gg_nwi q1590 rfl
theorem nq1593 : (Jvm.Cond.fieldLinkNest "WhistlePosts$World" (254 : Nat) "WhistlePosts$Tune" "end" "I" "WhistlePosts") ∈ gg_nw := gg_nwi q1593 rfl
theorem nq1596 : (Jvm.Cond.fieldLinkNest "WhistlePosts$World" (242 : Nat) "WhistlePosts$Tune" "far" "I" "WhistlePosts") ∈ gg_nw := gg_nwi q1596 rfl
theorem nq1598 : (Jvm.Cond.fieldLinkNest "WhistlePosts$World" (212 : Nat) "WhistlePosts$Tune" "tries" "I" "WhistlePosts") ∈ gg_nw := gg_nwi q1598 rfl
theorem nq1601 : (Jvm.Cond.fieldLinkNest "WhistlePosts$World" (290 : Nat) "WhistlePosts$Tune" "hops" "I" "WhistlePosts") ∈ gg_nw := gg_nwi q1601 rfl
theorem nq1630 : (Jvm.Cond.methodLinkNest "WhistlePosts$World" (205 : Nat) ({ cls := "WhistlePosts", name := "one", desc := "(Z)I" } : Jvm.MethodName) "WhistlePosts") ∈ gg_nw := gg_nwi q1630 rfl
theorem nq1729 : (Jvm.Cond.methodLinkNest "WhistlePosts$World" (127 : Nat) ({ cls := "WhistlePosts$Nearest", name := "<init>", desc := "()V" } : Jvm.MethodName) "WhistlePosts") ∈ gg_nw := gg_nwi q1729 rfl
theorem nq1765 : (Jvm.Cond.methodLinkNest "WhistlePosts$World" (133 : Nat) ({ cls := "WhistlePosts$Stop", name := "<init>", desc := "(II)V" } : Jvm.MethodName) "WhistlePosts") ∈ gg_nw := gg_nwi q1765 rfl
theorem nq3492 : (Jvm.Cond.castable "WhistlePosts$World" "java/lang/Object") ∈ gg_nw := gg_nwi q3492 rfl
theorem nq3498 : (Jvm.Cond.castable "WhistlePosts$Roof" "java/lang/Object") ∈ gg_nw := gg_nwi q3498 rfl
theorem nq3500 : (Jvm.Cond.castable "WhistlePosts$Way" "java/lang/Object") ∈ gg_nw := gg_nwi q3500 rfl
theorem nq3502 : (Jvm.Cond.castable "WhistlePostsModel" "java/lang/Object") ∈ gg_nw := gg_nwi q3502 rfl
theorem nq599 : (Jvm.Cond.fieldLinkNest "WhistlePosts$Reader" (135 : Nat) "WhistlePosts$World" "roofs" "Ljava/util/List;" "WhistlePosts") ∈ gg_nw := gg_nwi q599 rfl
theorem nq603 : (Jvm.Cond.fieldLinkNest "WhistlePosts$Reader" (152 : Nat) "WhistlePosts$World" "ways" "Ljava/util/LinkedList;" "WhistlePosts") ∈ gg_nw := gg_nwi q603 rfl
theorem nq827 : (Jvm.Cond.fieldLinkNest "WhistlePosts$Reader" (35 : Nat) "WhistlePosts" "buffer" "[B" "WhistlePosts") ∈ gg_nw := gg_nwi q827 rfl
theorem nq829 : (Jvm.Cond.fieldLinkNest "WhistlePosts$Reader" (15 : Nat) "WhistlePosts" "buffered" "I" "WhistlePosts") ∈ gg_nw := gg_nwi q829 rfl
theorem nq895 : (Jvm.Cond.methodLinkNest "WhistlePosts$Reader" (56 : Nat) ({ cls := "WhistlePosts", name := "in", desc := "(JJJ)Z" } : Jvm.MethodName) "WhistlePosts") ∈ gg_nw := gg_nwi q895 rfl
theorem nq1438 : (Jvm.Cond.methodLinkNest "WhistlePosts$Reader" (171 : Nat) ({ cls := "WhistlePosts$Way", name := "<init>", desc := "(III)V" } : Jvm.MethodName) "WhistlePosts") ∈ gg_nw := gg_nwi q1438 rfl
theorem nq1450 : (Jvm.Cond.fieldLinkNest "WhistlePosts$Reader" (124 : Nat) "WhistlePosts" "LEAST" "[I" "WhistlePosts") ∈ gg_nw := gg_nwi q1450 rfl
theorem nq1452 : (Jvm.Cond.fieldLinkNest "WhistlePosts$Reader" (128 : Nat) "WhistlePosts" "MOST" "[I" "WhistlePosts") ∈ gg_nw := gg_nwi q1452 rfl
theorem nq3503 : (Jvm.Cond.castable "WhistlePosts$Reader" "java/lang/Object") ∈ gg_nw := gg_nwi q3503 rfl
theorem nq1059 : (Jvm.Cond.castable "WhistlePosts$TextError" "WhistlePosts$TextError") ∈ gg_nw := gg_nwi q1059 rfl
theorem nq3505 : (Jvm.Cond.castable "WhistlePosts$TextError" "java/lang/Object") ∈ gg_nw := gg_nwi q3505 rfl
theorem nq1682 : (Jvm.Cond.methodLinkNest "WhistlePosts$Tune" (69 : Nat) ({ cls := "WhistlePosts", name := "one", desc := "(Z)I" } : Jvm.MethodName) "WhistlePosts") ∈ gg_nw := gg_nwi q1682 rfl
theorem nq3513 : (Jvm.Cond.castable "WhistlePosts$Tune" "java/lang/Object") ∈ gg_nw := gg_nwi q3513 rfl
theorem nq1817 : (Jvm.Cond.castable "WhistlePosts$Nearest" "java/util/Comparator") ∈ gg_nw := gg_nwi q1817 rfl
theorem nq1819 : (Jvm.Cond.unhidden "WhistlePosts$Nearest" "compare" "(Ljava/lang/Object;Ljava/lang/Object;)I") ∈ gg_nw := gg_nwi q1819 rfl
theorem nq1821 : (Jvm.Cond.publicMethod ({ cls := "WhistlePosts$Nearest", name := "compare", desc := "(Ljava/lang/Object;Ljava/lang/Object;)I" } : Jvm.MethodName)) ∈ gg_nw := gg_nwi q1821 rfl
theorem nq3515 : (Jvm.Cond.castable "WhistlePosts$Nearest" "java/lang/Object") ∈ gg_nw := gg_nwi q3515 rfl
theorem nq2240 : (Jvm.Cond.declares ({ cls := "WhistlePosts$Deed", name := "does", desc := "(LWhistlePosts$World;)I" } : Jvm.MethodName)) ∈ gg_nw := gg_nwi q2240 rfl
theorem nq3490 : (Jvm.Cond.castable "WhistlePosts$Deed" "java/lang/Object") ∈ gg_nw := gg_nwi q3490 rfl
theorem nq2684 : (Jvm.Cond.declares ({ cls := "WhistlePosts$Hop", name := "of", desc := "(II)I" } : Jvm.MethodName)) ∈ gg_nw := gg_nwi q2684 rfl
theorem nq2497 : (Jvm.Cond.declares ({ cls := "WhistlePosts$Test", name := "is", desc := "(LWhistlePosts$Tune;)Z" } : Jvm.MethodName)) ∈ gg_nw := gg_nwi q2497 rfl
theorem nq356 : (Jvm.Cond.castable "[B" "java/lang/Cloneable") ∈ gg_nw := gg_nwi q356 rfl
theorem nq3529 : (Jvm.Cond.castable "[B" "java/lang/Object") ∈ gg_nw := gg_nwi q3529 rfl
theorem nq3530 : (Jvm.Cond.castable "[I" "java/lang/Object") ∈ gg_nw := gg_nwi q3530 rfl
theorem nq2317 : (Jvm.Cond.castable "[J" "java/lang/Cloneable") ∈ gg_nw := gg_nwi q2317 rfl
theorem nq3532 : (Jvm.Cond.castable "[J" "java/lang/Object") ∈ gg_nw := gg_nwi q3532 rfl
theorem nq3531 : (Jvm.Cond.castable "[LWhistlePosts$Deed;" "java/lang/Object") ∈ gg_nw := gg_nwi q3531 rfl
theorem nq3528 : (Jvm.Cond.castable "[Ljava/lang/Object;" "java/lang/Object") ∈ gg_nw := gg_nwi q3528 rfl
theorem nq3533 : (Jvm.Cond.castable "[Z" "java/lang/Object") ∈ gg_nw := gg_nwi q3533 rfl
theorem nq1846 : (Jvm.Cond.declares ({ cls := "java/lang/Comparable", name := "compareTo", desc := "(Ljava/lang/Object;)I" } : Jvm.MethodName)) ∈ gg_nw := gg_nwi q1846 rfl
theorem nq1286 : (Jvm.Cond.castable "java/util/AbstractList$ListItr" "java/util/Iterator") ∈ gg_nw := gg_nwi q1286 rfl
theorem nq1288 : (Jvm.Cond.unhidden "java/util/AbstractList$ListItr" "hasNext" "()Z") ∈ gg_nw := gg_nwi q1288 rfl
theorem nq1317 : (Jvm.Cond.unhidden "java/util/AbstractList$ListItr" "next" "()Ljava/lang/Object;") ∈ gg_nw := gg_nwi q1317 rfl
theorem nq2105 : (Jvm.Cond.unhidden "java/util/AbstractList$ListItr" "remove" "()V") ∈ gg_nw := gg_nwi q2105 rfl
theorem nq3507 : (Jvm.Cond.castable "java/util/AbstractList$ListItr" "java/lang/Object") ∈ gg_nw := gg_nwi q3507 rfl
theorem nq1800 : (Jvm.Cond.declares ({ cls := "java/util/Comparator", name := "compare", desc := "(Ljava/lang/Object;Ljava/lang/Object;)I" } : Jvm.MethodName)) ∈ gg_nw := gg_nwi q1800 rfl
theorem nq1285 : (Jvm.Cond.declares ({ cls := "java/util/Iterator", name := "hasNext", desc := "()Z" } : Jvm.MethodName)) ∈ gg_nw := gg_nwi q1285 rfl
theorem nq1315 : (Jvm.Cond.declares ({ cls := "java/util/Iterator", name := "next", desc := "()Ljava/lang/Object;" } : Jvm.MethodName)) ∈ gg_nw := gg_nwi q1315 rfl
theorem nq2103 : (Jvm.Cond.declares ({ cls := "java/util/Iterator", name := "remove", desc := "()V" } : Jvm.MethodName)) ∈ gg_nw := gg_nwi q2103 rfl
theorem nq682 : (Jvm.Cond.declares ({ cls := "java/util/List", name := "add", desc := "(Ljava/lang/Object;)Z" } : Jvm.MethodName)) ∈ gg_nw := gg_nwi q682 rfl
theorem nq1042 : (Jvm.Cond.declares ({ cls := "java/util/List", name := "size", desc := "()I" } : Jvm.MethodName)) ∈ gg_nw := gg_nwi q1042 rfl
theorem nq1103 : (Jvm.Cond.declares ({ cls := "java/util/List", name := "get", desc := "(I)Ljava/lang/Object;" } : Jvm.MethodName)) ∈ gg_nw := gg_nwi q1103 rfl
theorem nq2374 : (Jvm.Cond.declares ({ cls := "java/util/List", name := "iterator", desc := "()Ljava/util/Iterator;" } : Jvm.MethodName)) ∈ gg_nw := gg_nwi q2374 rfl
theorem nq990 : (Jvm.Cond.declares ({ cls := "jdk/internal/access/JavaLangAccess", name := "getUTF16Char", desc := "([BI)C" } : Jvm.MethodName)) ∈ gg_nw := gg_nwi q990 rfl
theorem nq235 : (Jvm.Cond.arrayOver (Jvm.ClassFile.FieldType.object "java/lang/Object")) ∈ gg_nw := gg_nwi q235 rfl
theorem nq1483 : (Jvm.Cond.arrayOver (Jvm.ClassFile.FieldType.object "WhistlePosts$Deed")) ∈ gg_nw := gg_nwi q1483 rfl
