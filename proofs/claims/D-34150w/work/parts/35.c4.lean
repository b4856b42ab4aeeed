set_option maxRecDepth 100000 in
set_option maxHeartbeats 4000000 in
theorem w_J11_bitCount0 (l : Launch) (hlt : l.stackTraces = false) (T : GT) (x : Int32)  (post : Int32 → Prop) (v0_ : post ((((((((x - (((x.toUInt32 >>> ((iN 1).toUInt32 &&& Int32.toUInt32 31)).toInt32) &&& (iN 1431655765))) &&& (iN 858993459)) + ((((x - (((x.toUInt32 >>> ((iN 1).toUInt32 &&& Int32.toUInt32 31)).toInt32) &&& (iN 1431655765))).toUInt32 >>> ((iN 2).toUInt32 &&& Int32.toUInt32 31)).toInt32) &&& (iN 858993459))) + (((((x - (((x.toUInt32 >>> ((iN 1).toUInt32 &&& Int32.toUInt32 31)).toInt32) &&& (iN 1431655765))) &&& (iN 858993459)) + ((((x - (((x.toUInt32 >>> ((iN 1).toUInt32 &&& Int32.toUInt32 31)).toInt32) &&& (iN 1431655765))).toUInt32 >>> ((iN 2).toUInt32 &&& Int32.toUInt32 31)).toInt32) &&& (iN 858993459))).toUInt32 >>> ((iN 4).toUInt32 &&& Int32.toUInt32 31)).toInt32)) &&& (iN 252645135)) + (((((((x - (((x.toUInt32 >>> ((iN 1).toUInt32 &&& Int32.toUInt32 31)).toInt32) &&& (iN 1431655765))) &&& (iN 858993459)) + ((((x - (((x.toUInt32 >>> ((iN 1).toUInt32 &&& Int32.toUInt32 31)).toInt32) &&& (iN 1431655765))).toUInt32 >>> ((iN 2).toUInt32 &&& Int32.toUInt32 31)).toInt32) &&& (iN 858993459))) + (((((x - (((x.toUInt32 >>> ((iN 1).toUInt32 &&& Int32.toUInt32 31)).toInt32) &&& (iN 1431655765))) &&& (iN 858993459)) + ((((x - (((x.toUInt32 >>> ((iN 1).toUInt32 &&& Int32.toUInt32 31)).toInt32) &&& (iN 1431655765))).toUInt32 >>> ((iN 2).toUInt32 &&& Int32.toUInt32 31)).toInt32) &&& (iN 858993459))).toUInt32 >>> ((iN 4).toUInt32 &&& Int32.toUInt32 31)).toInt32)) &&& (iN 252645135)).toUInt32 >>> ((iN 8).toUInt32 &&& Int32.toUInt32 31)).toInt32)) + ((((((((x - (((x.toUInt32 >>> ((iN 1).toUInt32 &&& Int32.toUInt32 31)).toInt32) &&& (iN 1431655765))) &&& (iN 858993459)) + ((((x - (((x.toUInt32 >>> ((iN 1).toUInt32 &&& Int32.toUInt32 31)).toInt32) &&& (iN 1431655765))).toUInt32 >>> ((iN 2).toUInt32 &&& Int32.toUInt32 31)).toInt32) &&& (iN 858993459))) + (((((x - (((x.toUInt32 >>> ((iN 1).toUInt32 &&& Int32.toUInt32 31)).toInt32) &&& (iN 1431655765))) &&& (iN 858993459)) + ((((x - (((x.toUInt32 >>> ((iN 1).toUInt32 &&& Int32.toUInt32 31)).toInt32) &&& (iN 1431655765))).toUInt32 >>> ((iN 2).toUInt32 &&& Int32.toUInt32 31)).toInt32) &&& (iN 858993459))).toUInt32 >>> ((iN 4).toUInt32 &&& Int32.toUInt32 31)).toInt32)) &&& (iN 252645135)) + (((((((x - (((x.toUInt32 >>> ((iN 1).toUInt32 &&& Int32.toUInt32 31)).toInt32) &&& (iN 1431655765))) &&& (iN 858993459)) + ((((x - (((x.toUInt32 >>> ((iN 1).toUInt32 &&& Int32.toUInt32 31)).toInt32) &&& (iN 1431655765))).toUInt32 >>> ((iN 2).toUInt32 &&& Int32.toUInt32 31)).toInt32) &&& (iN 858993459))) + (((((x - (((x.toUInt32 >>> ((iN 1).toUInt32 &&& Int32.toUInt32 31)).toInt32) &&& (iN 1431655765))) &&& (iN 858993459)) + ((((x - (((x.toUInt32 >>> ((iN 1).toUInt32 &&& Int32.toUInt32 31)).toInt32) &&& (iN 1431655765))).toUInt32 >>> ((iN 2).toUInt32 &&& Int32.toUInt32 31)).toInt32) &&& (iN 858993459))).toUInt32 >>> ((iN 4).toUInt32 &&& Int32.toUInt32 31)).toInt32)) &&& (iN 252645135)).toUInt32 >>> ((iN 8).toUInt32 &&& Int32.toUInt32 31)).toInt32)).toUInt32 >>> ((iN 16).toUInt32 &&& Int32.toUInt32 31)).toInt32)) &&& (iN 63)))  : MR l T yJ11_bitCount cJ11_bitCount 1 (some .int) ({ frames := 0, cells := 0, slots := 0, locals := 0 }) [.int x] [] (fun v_ => ∃ (r : Int32), v_ = some (.int r) ∧ post r) := by
  refine MR.start hlt (by decide) (lv0 := [some (.int x)]) rfl (Nat.le_of_ble_eq_true rfl) rfl ?_
  intro p e R s m args below meth c cx hr hST
  have vc := v0_
  refine g_iload_n (q := 1) cx dJ11_bitCount_0 rfl rfl ?_
  refine g_iload_n (q := 2) cx dJ11_bitCount_1 rfl rfl ?_
  refine g_iconst (q := 3) (v := iN 1) cx dJ11_bitCount_2 rfl rfl ?_
  refine g_iushr (q := 4) cx dJ11_bitCount_3 rfl ?_
  refine g_ldc_w (q := 7) (v := iN 1431655765) cx dJ11_bitCount_4 q398 rfl ?_
  refine g_iand (q := 8) cx dJ11_bitCount_7 rfl ?_
  refine g_isub (q := 9) cx dJ11_bitCount_8 rfl ?_
  refine g_istore_n (q := 10) (lv2 := [some (.int (x - (((x.toUInt32 >>> ((iN 1).toUInt32 &&& Int32.toUInt32 31)).toInt32) &&& (iN 1431655765))))]) cx dJ11_bitCount_9 rfl (by decide) rfl rfl ?_
  refine g_iload_n (q := 11) cx dJ11_bitCount_10 rfl rfl ?_
  refine g_ldc_w (q := 14) (v := iN 858993459) cx dJ11_bitCount_11 q399 rfl ?_
  refine g_iand (q := 15) cx dJ11_bitCount_14 rfl ?_
  refine g_iload_n (q := 16) cx dJ11_bitCount_15 rfl rfl ?_
  refine g_iconst (q := 17) (v := iN 2) cx dJ11_bitCount_16 rfl rfl ?_
  refine g_iushr (q := 18) cx dJ11_bitCount_17 rfl ?_
  refine g_ldc_w (q := 21) (v := iN 858993459) cx dJ11_bitCount_18 q399 rfl ?_
  refine g_iand (q := 22) cx dJ11_bitCount_21 rfl ?_
  refine g_iadd (q := 23) cx dJ11_bitCount_22 rfl ?_
  refine g_istore_n (q := 24) (lv2 := [some (.int (((x - (((x.toUInt32 >>> ((iN 1).toUInt32 &&& Int32.toUInt32 31)).toInt32) &&& (iN 1431655765))) &&& (iN 858993459)) + ((((x - (((x.toUInt32 >>> ((iN 1).toUInt32 &&& Int32.toUInt32 31)).toInt32) &&& (iN 1431655765))).toUInt32 >>> ((iN 2).toUInt32 &&& Int32.toUInt32 31)).toInt32) &&& (iN 858993459))))]) cx dJ11_bitCount_23 rfl (by decide) rfl rfl ?_
  refine g_iload_n (q := 25) cx dJ11_bitCount_24 rfl rfl ?_
  refine g_iload_n (q := 26) cx dJ11_bitCount_25 rfl rfl ?_
  refine g_iconst (q := 27) (v := iN 4) cx dJ11_bitCount_26 rfl rfl ?_
  refine g_iushr (q := 28) cx dJ11_bitCount_27 rfl ?_
  refine g_iadd (q := 29) cx dJ11_bitCount_28 rfl ?_
  refine g_ldc_w (q := 32) (v := iN 252645135) cx dJ11_bitCount_29 q400 rfl ?_
  refine g_iand (q := 33) cx dJ11_bitCount_32 rfl ?_
  refine g_istore_n (q := 34) (lv2 := [some (.int (((((x - (((x.toUInt32 >>> ((iN 1).toUInt32 &&& Int32.toUInt32 31)).toInt32) &&& (iN 1431655765))) &&& (iN 858993459)) + ((((x - (((x.toUInt32 >>> ((iN 1).toUInt32 &&& Int32.toUInt32 31)).toInt32) &&& (iN 1431655765))).toUInt32 >>> ((iN 2).toUInt32 &&& Int32.toUInt32 31)).toInt32) &&& (iN 858993459))) + (((((x - (((x.toUInt32 >>> ((iN 1).toUInt32 &&& Int32.toUInt32 31)).toInt32) &&& (iN 1431655765))) &&& (iN 858993459)) + ((((x - (((x.toUInt32 >>> ((iN 1).toUInt32 &&& Int32.toUInt32 31)).toInt32) &&& (iN 1431655765))).toUInt32 >>> ((iN 2).toUInt32 &&& Int32.toUInt32 31)).toInt32) &&& (iN 858993459))).toUInt32 >>> ((iN 4).toUInt32 &&& Int32.toUInt32 31)).toInt32)) &&& (iN 252645135)))]) cx dJ11_bitCount_33 rfl (by decide) rfl rfl ?_
  refine g_iload_n (q := 35) cx dJ11_bitCount_34 rfl rfl ?_
  refine g_iload_n (q := 36) cx dJ11_bitCount_35 rfl rfl ?_
  refine g_bipush (q := 38) (v := iN 8) cx dJ11_bitCount_36 (by decide) rfl ?_
  refine g_iushr (q := 39) cx dJ11_bitCount_38 rfl ?_
  refine g_iadd (q := 40) cx dJ11_bitCount_39 rfl ?_
  refine g_istore_n (q := 41) (lv2 := [some (.int ((((((x - (((x.toUInt32 >>> ((iN 1).toUInt32 &&& Int32.toUInt32 31)).toInt32) &&& (iN 1431655765))) &&& (iN 858993459)) + ((((x - (((x.toUInt32 >>> ((iN 1).toUInt32 &&& Int32.toUInt32 31)).toInt32) &&& (iN 1431655765))).toUInt32 >>> ((iN 2).toUInt32 &&& Int32.toUInt32 31)).toInt32) &&& (iN 858993459))) + (((((x - (((x.toUInt32 >>> ((iN 1).toUInt32 &&& Int32.toUInt32 31)).toInt32) &&& (iN 1431655765))) &&& (iN 858993459)) + ((((x - (((x.toUInt32 >>> ((iN 1).toUInt32 &&& Int32.toUInt32 31)).toInt32) &&& (iN 1431655765))).toUInt32 >>> ((iN 2).toUInt32 &&& Int32.toUInt32 31)).toInt32) &&& (iN 858993459))).toUInt32 >>> ((iN 4).toUInt32 &&& Int32.toUInt32 31)).toInt32)) &&& (iN 252645135)) + (((((((x - (((x.toUInt32 >>> ((iN 1).toUInt32 &&& Int32.toUInt32 31)).toInt32) &&& (iN 1431655765))) &&& (iN 858993459)) + ((((x - (((x.toUInt32 >>> ((iN 1).toUInt32 &&& Int32.toUInt32 31)).toInt32) &&& (iN 1431655765))).toUInt32 >>> ((iN 2).toUInt32 &&& Int32.toUInt32 31)).toInt32) &&& (iN 858993459))) + (((((x - (((x.toUInt32 >>> ((iN 1).toUInt32 &&& Int32.toUInt32 31)).toInt32) &&& (iN 1431655765))) &&& (iN 858993459)) + ((((x - (((x.toUInt32 >>> ((iN 1).toUInt32 &&& Int32.toUInt32 31)).toInt32) &&& (iN 1431655765))).toUInt32 >>> ((iN 2).toUInt32 &&& Int32.toUInt32 31)).toInt32) &&& (iN 858993459))).toUInt32 >>> ((iN 4).toUInt32 &&& Int32.toUInt32 31)).toInt32)) &&& (iN 252645135)).toUInt32 >>> ((iN 8).toUInt32 &&& Int32.toUInt32 31)).toInt32)))]) cx dJ11_bitCount_40 rfl (by decide) rfl rfl ?_
  refine g_iload_n (q := 42) cx dJ11_bitCount_41 rfl rfl ?_
  refine g_iload_n (q := 43) cx dJ11_bitCount_42 rfl rfl ?_
  refine g_bipush (q := 45) (v := iN 16) cx dJ11_bitCount_43 (by decide) rfl ?_
  refine g_iushr (q := 46) cx dJ11_bitCount_45 rfl ?_
  refine g_iadd (q := 47) cx dJ11_bitCount_46 rfl ?_
  refine g_istore_n (q := 48) (lv2 := [some (.int (((((((x - (((x.toUInt32 >>> ((iN 1).toUInt32 &&& Int32.toUInt32 31)).toInt32) &&& (iN 1431655765))) &&& (iN 858993459)) + ((((x - (((x.toUInt32 >>> ((iN 1).toUInt32 &&& Int32.toUInt32 31)).toInt32) &&& (iN 1431655765))).toUInt32 >>> ((iN 2).toUInt32 &&& Int32.toUInt32 31)).toInt32) &&& (iN 858993459))) + (((((x - (((x.toUInt32 >>> ((iN 1).toUInt32 &&& Int32.toUInt32 31)).toInt32) &&& (iN 1431655765))) &&& (iN 858993459)) + ((((x - (((x.toUInt32 >>> ((iN 1).toUInt32 &&& Int32.toUInt32 31)).toInt32) &&& (iN 1431655765))).toUInt32 >>> ((iN 2).toUInt32 &&& Int32.toUInt32 31)).toInt32) &&& (iN 858993459))).toUInt32 >>> ((iN 4).toUInt32 &&& Int32.toUInt32 31)).toInt32)) &&& (iN 252645135)) + (((((((x - (((x.toUInt32 >>> ((iN 1).toUInt32 &&& Int32.toUInt32 31)).toInt32) &&& (iN 1431655765))) &&& (iN 858993459)) + ((((x - (((x.toUInt32 >>> ((iN 1).toUInt32 &&& Int32.toUInt32 31)).toInt32) &&& (iN 1431655765))).toUInt32 >>> ((iN 2).toUInt32 &&& Int32.toUInt32 31)).toInt32) &&& (iN 858993459))) + (((((x - (((x.toUInt32 >>> ((iN 1).toUInt32 &&& Int32.toUInt32 31)).toInt32) &&& (iN 1431655765))) &&& (iN 858993459)) + ((((x - (((x.toUInt32 >>> ((iN 1).toUInt32 &&& Int32.toUInt32 31)).toInt32) &&& (iN 1431655765))).toUInt32 >>> ((iN 2).toUInt32 &&& Int32.toUInt32 31)).toInt32) &&& (iN 858993459))).toUInt32 >>> ((iN 4).toUInt32 &&& Int32.toUInt32 31)).toInt32)) &&& (iN 252645135)).toUInt32 >>> ((iN 8).toUInt32 &&& Int32.toUInt32 31)).toInt32)) + ((((((((x - (((x.toUInt32 >>> ((iN 1).toUInt32 &&& Int32.toUInt32 31)).toInt32) &&& (iN 1431655765))) &&& (iN 858993459)) + ((((x - (((x.toUInt32 >>> ((iN 1).toUInt32 &&& Int32.toUInt32 31)).toInt32) &&& (iN 1431655765))).toUInt32 >>> ((iN 2).toUInt32 &&& Int32.toUInt32 31)).toInt32) &&& (iN 858993459))) + (((((x - (((x.toUInt32 >>> ((iN 1).toUInt32 &&& Int32.toUInt32 31)).toInt32) &&& (iN 1431655765))) &&& (iN 858993459)) + ((((x - (((x.toUInt32 >>> ((iN 1).toUInt32 &&& Int32.toUInt32 31)).toInt32) &&& (iN 1431655765))).toUInt32 >>> ((iN 2).toUInt32 &&& Int32.toUInt32 31)).toInt32) &&& (iN 858993459))).toUInt32 >>> ((iN 4).toUInt32 &&& Int32.toUInt32 31)).toInt32)) &&& (iN 252645135)) + (((((((x - (((x.toUInt32 >>> ((iN 1).toUInt32 &&& Int32.toUInt32 31)).toInt32) &&& (iN 1431655765))) &&& (iN 858993459)) + ((((x - (((x.toUInt32 >>> ((iN 1).toUInt32 &&& Int32.toUInt32 31)).toInt32) &&& (iN 1431655765))).toUInt32 >>> ((iN 2).toUInt32 &&& Int32.toUInt32 31)).toInt32) &&& (iN 858993459))) + (((((x - (((x.toUInt32 >>> ((iN 1).toUInt32 &&& Int32.toUInt32 31)).toInt32) &&& (iN 1431655765))) &&& (iN 858993459)) + ((((x - (((x.toUInt32 >>> ((iN 1).toUInt32 &&& Int32.toUInt32 31)).toInt32) &&& (iN 1431655765))).toUInt32 >>> ((iN 2).toUInt32 &&& Int32.toUInt32 31)).toInt32) &&& (iN 858993459))).toUInt32 >>> ((iN 4).toUInt32 &&& Int32.toUInt32 31)).toInt32)) &&& (iN 252645135)).toUInt32 >>> ((iN 8).toUInt32 &&& Int32.toUInt32 31)).toInt32)).toUInt32 >>> ((iN 16).toUInt32 &&& Int32.toUInt32 31)).toInt32)))]) cx dJ11_bitCount_47 rfl (by decide) rfl rfl ?_
  refine g_iload_n (q := 49) cx dJ11_bitCount_48 rfl rfl ?_
  refine g_bipush (q := 51) (v := iN 63) cx dJ11_bitCount_49 (by decide) rfl ?_
  refine g_iand (q := 52) cx dJ11_bitCount_51 rfl ?_
  exact g_iretR cx hr rfl ⟨((((((((x - (((x.toUInt32 >>> ((iN 1).toUInt32 &&& Int32.toUInt32 31)).toInt32) &&& (iN 1431655765))) &&& (iN 858993459)) + ((((x - (((x.toUInt32 >>> ((iN 1).toUInt32 &&& Int32.toUInt32 31)).toInt32) &&& (iN 1431655765))).toUInt32 >>> ((iN 2).toUInt32 &&& Int32.toUInt32 31)).toInt32) &&& (iN 858993459))) + (((((x - (((x.toUInt32 >>> ((iN 1).toUInt32 &&& Int32.toUInt32 31)).toInt32) &&& (iN 1431655765))) &&& (iN 858993459)) + ((((x - (((x.toUInt32 >>> ((iN 1).toUInt32 &&& Int32.toUInt32 31)).toInt32) &&& (iN 1431655765))).toUInt32 >>> ((iN 2).toUInt32 &&& Int32.toUInt32 31)).toInt32) &&& (iN 858993459))).toUInt32 >>> ((iN 4).toUInt32 &&& Int32.toUInt32 31)).toInt32)) &&& (iN 252645135)) + (((((((x - (((x.toUInt32 >>> ((iN 1).toUInt32 &&& Int32.toUInt32 31)).toInt32) &&& (iN 1431655765))) &&& (iN 858993459)) + ((((x - (((x.toUInt32 >>> ((iN 1).toUInt32 &&& Int32.toUInt32 31)).toInt32) &&& (iN 1431655765))).toUInt32 >>> ((iN 2).toUInt32 &&& Int32.toUInt32 31)).toInt32) &&& (iN 858993459))) + (((((x - (((x.toUInt32 >>> ((iN 1).toUInt32 &&& Int32.toUInt32 31)).toInt32) &&& (iN 1431655765))) &&& (iN 858993459)) + ((((x - (((x.toUInt32 >>> ((iN 1).toUInt32 &&& Int32.toUInt32 31)).toInt32) &&& (iN 1431655765))).toUInt32 >>> ((iN 2).toUInt32 &&& Int32.toUInt32 31)).toInt32) &&& (iN 858993459))).toUInt32 >>> ((iN 4).toUInt32 &&& Int32.toUInt32 31)).toInt32)) &&& (iN 252645135)).toUInt32 >>> ((iN 8).toUInt32 &&& Int32.toUInt32 31)).toInt32)) + ((((((((x - (((x.toUInt32 >>> ((iN 1).toUInt32 &&& Int32.toUInt32 31)).toInt32) &&& (iN 1431655765))) &&& (iN 858993459)) + ((((x - (((x.toUInt32 >>> ((iN 1).toUInt32 &&& Int32.toUInt32 31)).toInt32) &&& (iN 1431655765))).toUInt32 >>> ((iN 2).toUInt32 &&& Int32.toUInt32 31)).toInt32) &&& (iN 858993459))) + (((((x - (((x.toUInt32 >>> ((iN 1).toUInt32 &&& Int32.toUInt32 31)).toInt32) &&& (iN 1431655765))) &&& (iN 858993459)) + ((((x - (((x.toUInt32 >>> ((iN 1).toUInt32 &&& Int32.toUInt32 31)).toInt32) &&& (iN 1431655765))).toUInt32 >>> ((iN 2).toUInt32 &&& Int32.toUInt32 31)).toInt32) &&& (iN 858993459))).toUInt32 >>> ((iN 4).toUInt32 &&& Int32.toUInt32 31)).toInt32)) &&& (iN 252645135)) + (((((((x - (((x.toUInt32 >>> ((iN 1).toUInt32 &&& Int32.toUInt32 31)).toInt32) &&& (iN 1431655765))) &&& (iN 858993459)) + ((((x - (((x.toUInt32 >>> ((iN 1).toUInt32 &&& Int32.toUInt32 31)).toInt32) &&& (iN 1431655765))).toUInt32 >>> ((iN 2).toUInt32 &&& Int32.toUInt32 31)).toInt32) &&& (iN 858993459))) + (((((x - (((x.toUInt32 >>> ((iN 1).toUInt32 &&& Int32.toUInt32 31)).toInt32) &&& (iN 1431655765))) &&& (iN 858993459)) + ((((x - (((x.toUInt32 >>> ((iN 1).toUInt32 &&& Int32.toUInt32 31)).toInt32) &&& (iN 1431655765))).toUInt32 >>> ((iN 2).toUInt32 &&& Int32.toUInt32 31)).toInt32) &&& (iN 858993459))).toUInt32 >>> ((iN 4).toUInt32 &&& Int32.toUInt32 31)).toInt32)) &&& (iN 252645135)).toUInt32 >>> ((iN 8).toUInt32 &&& Int32.toUInt32 31)).toInt32)).toUInt32 >>> ((iN 16).toUInt32 &&& Int32.toUInt32 31)).toInt32)) &&& (iN 63)), rfl, vc⟩ dJ11_bitCount_52

set_option maxRecDepth 100000 in
set_option maxHeartbeats 4000000 in
theorem w_J11_ntz0 (l : Launch) (hlt : l.stackTraces = false) (T : GT) (x : Int32)  (post : Int32 → Prop) (v0_ : (0 < ((x ^^^ (iN (-1))) &&& (x - (iN 1))) → ((((x ^^^ (iN (-1))) &&& (x - (iN 1))) ≤ (iN 65536) → ((((x ^^^ (iN (-1))) &&& (x - (iN 1))) ≤ (iN 256) → ((((x ^^^ (iN (-1))) &&& (x - (iN 1))) ≤ (iN 16) → ((((x ^^^ (iN (-1))) &&& (x - (iN 1))) ≤ (iN 4) → (post ((iN 1) + ((((x ^^^ (iN (-1))) &&& (x - (iN 1))).toUInt32 >>> ((iN 1).toUInt32 &&& Int32.toUInt32 31)).toInt32)))) ∧ (¬ ((x ^^^ (iN (-1))) &&& (x - (iN 1))) ≤ (iN 4) → (post ((iN (1 + 2)) + ((((((x ^^^ (iN (-1))) &&& (x - (iN 1))).toUInt32 >>> ((iN 2).toUInt32 &&& Int32.toUInt32 31)).toInt32).toUInt32 >>> ((iN 1).toUInt32 &&& Int32.toUInt32 31)).toInt32)))))) ∧ (¬ ((x ^^^ (iN (-1))) &&& (x - (iN 1))) ≤ (iN 16) → ((((((x ^^^ (iN (-1))) &&& (x - (iN 1))).toUInt32 >>> ((iN 4).toUInt32 &&& Int32.toUInt32 31)).toInt32) ≤ (iN 4) → (post ((iN (1 + 4)) + ((((((x ^^^ (iN (-1))) &&& (x - (iN 1))).toUInt32 >>> ((iN 4).toUInt32 &&& Int32.toUInt32 31)).toInt32).toUInt32 >>> ((iN 1).toUInt32 &&& Int32.toUInt32 31)).toInt32)))) ∧ (¬ ((((x ^^^ (iN (-1))) &&& (x - (iN 1))).toUInt32 >>> ((iN 4).toUInt32 &&& Int32.toUInt32 31)).toInt32) ≤ (iN 4) → (post ((iN ((1 + 4) + 2)) + ((((((((x ^^^ (iN (-1))) &&& (x - (iN 1))).toUInt32 >>> ((iN 4).toUInt32 &&& Int32.toUInt32 31)).toInt32).toUInt32 >>> ((iN 2).toUInt32 &&& Int32.toUInt32 31)).toInt32).toUInt32 >>> ((iN 1).toUInt32 &&& Int32.toUInt32 31)).toInt32)))))))) ∧ (¬ ((x ^^^ (iN (-1))) &&& (x - (iN 1))) ≤ (iN 256) → ((((((x ^^^ (iN (-1))) &&& (x - (iN 1))).toUInt32 >>> ((iN 8).toUInt32 &&& Int32.toUInt32 31)).toInt32) ≤ (iN 16) → ((((((x ^^^ (iN (-1))) &&& (x - (iN 1))).toUInt32 >>> ((iN 8).toUInt32 &&& Int32.toUInt32 31)).toInt32) ≤ (iN 4) → (post ((iN (1 + 8)) + ((((((x ^^^ (iN (-1))) &&& (x - (iN 1))).toUInt32 >>> ((iN 8).toUInt32 &&& Int32.toUInt32 31)).toInt32).toUInt32 >>> ((iN 1).toUInt32 &&& Int32.toUInt32 31)).toInt32)))) ∧ (¬ ((((x ^^^ (iN (-1))) &&& (x - (iN 1))).toUInt32 >>> ((iN 8).toUInt32 &&& Int32.toUInt32 31)).toInt32) ≤ (iN 4) → (post ((iN ((1 + 8) + 2)) + ((((((((x ^^^ (iN (-1))) &&& (x - (iN 1))).toUInt32 >>> ((iN 8).toUInt32 &&& Int32.toUInt32 31)).toInt32).toUInt32 >>> ((iN 2).toUInt32 &&& Int32.toUInt32 31)).toInt32).toUInt32 >>> ((iN 1).toUInt32 &&& Int32.toUInt32 31)).toInt32)))))) ∧ (¬ ((((x ^^^ (iN (-1))) &&& (x - (iN 1))).toUInt32 >>> ((iN 8).toUInt32 &&& Int32.toUInt32 31)).toInt32) ≤ (iN 16) → ((((((((x ^^^ (iN (-1))) &&& (x - (iN 1))).toUInt32 >>> ((iN 8).toUInt32 &&& Int32.toUInt32 31)).toInt32).toUInt32 >>> ((iN 4).toUInt32 &&& Int32.toUInt32 31)).toInt32) ≤ (iN 4) → (post ((iN ((1 + 8) + 4)) + ((((((((x ^^^ (iN (-1))) &&& (x - (iN 1))).toUInt32 >>> ((iN 8).toUInt32 &&& Int32.toUInt32 31)).toInt32).toUInt32 >>> ((iN 4).toUInt32 &&& Int32.toUInt32 31)).toInt32).toUInt32 >>> ((iN 1).toUInt32 &&& Int32.toUInt32 31)).toInt32)))) ∧ (¬ ((((((x ^^^ (iN (-1))) &&& (x - (iN 1))).toUInt32 >>> ((iN 8).toUInt32 &&& Int32.toUInt32 31)).toInt32).toUInt32 >>> ((iN 4).toUInt32 &&& Int32.toUInt32 31)).toInt32) ≤ (iN 4) → (post ((iN (((1 + 8) + 4) + 2)) + ((((((((((x ^^^ (iN (-1))) &&& (x - (iN 1))).toUInt32 >>> ((iN 8).toUInt32 &&& Int32.toUInt32 31)).toInt32).toUInt32 >>> ((iN 4).toUInt32 &&& Int32.toUInt32 31)).toInt32).toUInt32 >>> ((iN 2).toUInt32 &&& Int32.toUInt32 31)).toInt32).toUInt32 >>> ((iN 1).toUInt32 &&& Int32.toUInt32 31)).toInt32)))))))))) ∧ (¬ ((x ^^^ (iN (-1))) &&& (x - (iN 1))) ≤ (iN 65536) → ((((((x ^^^ (iN (-1))) &&& (x - (iN 1))).toUInt32 >>> ((iN 16).toUInt32 &&& Int32.toUInt32 31)).toInt32) ≤ (iN 256) → ((((((x ^^^ (iN (-1))) &&& (x - (iN 1))).toUInt32 >>> ((iN 16).toUInt32 &&& Int32.toUInt32 31)).toInt32) ≤ (iN 16) → ((((((x ^^^ (iN (-1))) &&& (x - (iN 1))).toUInt32 >>> ((iN 16).toUInt32 &&& Int32.toUInt32 31)).toInt32) ≤ (iN 4) → (post ((iN (1 + 16)) + ((((((x ^^^ (iN (-1))) &&& (x - (iN 1))).toUInt32 >>> ((iN 16).toUInt32 &&& Int32.toUInt32 31)).toInt32).toUInt32 >>> ((iN 1).toUInt32 &&& Int32.toUInt32 31)).toInt32)))) ∧ (¬ ((((x ^^^ (iN (-1))) &&& (x - (iN 1))).toUInt32 >>> ((iN 16).toUInt32 &&& Int32.toUInt32 31)).toInt32) ≤ (iN 4) → (post ((iN ((1 + 16) + 2)) + ((((((((x ^^^ (iN (-1))) &&& (x - (iN 1))).toUInt32 >>> ((iN 16).toUInt32 &&& Int32.toUInt32 31)).toInt32).toUInt32 >>> ((iN 2).toUInt32 &&& Int32.toUInt32 31)).toInt32).toUInt32 >>> ((iN 1).toUInt32 &&& Int32.toUInt32 31)).toInt32)))))) ∧ (¬ ((((x ^^^ (iN (-1))) &&& (x - (iN 1))).toUInt32 >>> ((iN 16).toUInt32 &&& Int32.toUInt32 31)).toInt32) ≤ (iN 16) → ((((((((x ^^^ (iN (-1))) &&& (x - (iN 1))).toUInt32 >>> ((iN 16).toUInt32 &&& Int32.toUInt32 31)).toInt32).toUInt32 >>> ((iN 4).toUInt32 &&& Int32.toUInt32 31)).toInt32) ≤ (iN 4) → (post ((iN ((1 + 16) + 4)) + ((((((((x ^^^ (iN (-1))) &&& (x - (iN 1))).toUInt32 >>> ((iN 16).toUInt32 &&& Int32.toUInt32 31)).toInt32).toUInt32 >>> ((iN 4).toUInt32 &&& Int32.toUInt32 31)).toInt32).toUInt32 >>> ((iN 1).toUInt32 &&& Int32.toUInt32 31)).toInt32)))) ∧ (¬ ((((((x ^^^ (iN (-1))) &&& (x - (iN 1))).toUInt32 >>> ((iN 16).toUInt32 &&& Int32.toUInt32 31)).toInt32).toUInt32 >>> ((iN 4).toUInt32 &&& Int32.toUInt32 31)).toInt32) ≤ (iN 4) → (post ((iN (((1 + 16) + 4) + 2)) + ((((((((((x ^^^ (iN (-1))) &&& (x - (iN 1))).toUInt32 >>> ((iN 16).toUInt32 &&& Int32.toUInt32 31)).toInt32).toUInt32 >>> ((iN 4).toUInt32 &&& Int32.toUInt32 31)).toInt32).toUInt32 >>> ((iN 2).toUInt32 &&& Int32.toUInt32 31)).toInt32).toUInt32 >>> ((iN 1).toUInt32 &&& Int32.toUInt32 31)).toInt32)))))))) ∧ (¬ ((((x ^^^ (iN (-1))) &&& (x - (iN 1))).toUInt32 >>> ((iN 16).toUInt32 &&& Int32.toUInt32 31)).toInt32) ≤ (iN 256) → ((((((((x ^^^ (iN (-1))) &&& (x - (iN 1))).toUInt32 >>> ((iN 16).toUInt32 &&& Int32.toUInt32 31)).toInt32).toUInt32 >>> ((iN 8).toUInt32 &&& Int32.toUInt32 31)).toInt32) ≤ (iN 16) → ((((((((x ^^^ (iN (-1))) &&& (x - (iN 1))).toUInt32 >>> ((iN 16).toUInt32 &&& Int32.toUInt32 31)).toInt32).toUInt32 >>> ((iN 8).toUInt32 &&& Int32.toUInt32 31)).toInt32) ≤ (iN 4) → (post ((iN ((1 + 16) + 8)) + ((((((((x ^^^ (iN (-1))) &&& (x - (iN 1))).toUInt32 >>> ((iN 16).toUInt32 &&& Int32.toUInt32 31)).toInt32).toUInt32 >>> ((iN 8).toUInt32 &&& Int32.toUInt32 31)).toInt32).toUInt32 >>> ((iN 1).toUInt32 &&& Int32.toUInt32 31)).toInt32)))) ∧ (¬ ((((((x ^^^ (iN (-1))) &&& (x - (iN 1))).toUInt32 >>> ((iN 16).toUInt32 &&& Int32.toUInt32 31)).toInt32).toUInt32 >>> ((iN 8).toUInt32 &&& Int32.toUInt32 31)).toInt32) ≤ (iN 4) → (post ((iN (((1 + 16) + 8) + 2)) + ((((((((((x ^^^ (iN (-1))) &&& (x - (iN 1))).toUInt32 >>> ((iN 16).toUInt32 &&& Int32.toUInt32 31)).toInt32).toUInt32 >>> ((iN 8).toUInt32 &&& Int32.toUInt32 31)).toInt32).toUInt32 >>> ((iN 2).toUInt32 &&& Int32.toUInt32 31)).toInt32).toUInt32 >>> ((iN 1).toUInt32 &&& Int32.toUInt32 31)).toInt32)))))) ∧ (¬ ((((((x ^^^ (iN (-1))) &&& (x - (iN 1))).toUInt32 >>> ((iN 16).toUInt32 &&& Int32.toUInt32 31)).toInt32).toUInt32 >>> ((iN 8).toUInt32 &&& Int32.toUInt32 31)).toInt32) ≤ (iN 16) → ((((((((((x ^^^ (iN (-1))) &&& (x - (iN 1))).toUInt32 >>> ((iN 16).toUInt32 &&& Int32.toUInt32 31)).toInt32).toUInt32 >>> ((iN 8).toUInt32 &&& Int32.toUInt32 31)).toInt32).toUInt32 >>> ((iN 4).toUInt32 &&& Int32.toUInt32 31)).toInt32) ≤ (iN 4) → (post ((iN (((1 + 16) + 8) + 4)) + ((((((((((x ^^^ (iN (-1))) &&& (x - (iN 1))).toUInt32 >>> ((iN 16).toUInt32 &&& Int32.toUInt32 31)).toInt32).toUInt32 >>> ((iN 8).toUInt32 &&& Int32.toUInt32 31)).toInt32).toUInt32 >>> ((iN 4).toUInt32 &&& Int32.toUInt32 31)).toInt32).toUInt32 >>> ((iN 1).toUInt32 &&& Int32.toUInt32 31)).toInt32)))) ∧ (¬ ((((((((x ^^^ (iN (-1))) &&& (x - (iN 1))).toUInt32 >>> ((iN 16).toUInt32 &&& Int32.toUInt32 31)).toInt32).toUInt32 >>> ((iN 8).toUInt32 &&& Int32.toUInt32 31)).toInt32).toUInt32 >>> ((iN 4).toUInt32 &&& Int32.toUInt32 31)).toInt32) ≤ (iN 4) → (post ((iN ((((1 + 16) + 8) + 4) + 2)) + ((((((((((((x ^^^ (iN (-1))) &&& (x - (iN 1))).toUInt32 >>> ((iN 16).toUInt32 &&& Int32.toUInt32 31)).toInt32).toUInt32 >>> ((iN 8).toUInt32 &&& Int32.toUInt32 31)).toInt32).toUInt32 >>> ((iN 4).toUInt32 &&& Int32.toUInt32 31)).toInt32).toUInt32 >>> ((iN 2).toUInt32 &&& Int32.toUInt32 31)).toInt32).toUInt32 >>> ((iN 1).toUInt32 &&& Int32.toUInt32 31)).toInt32)))))))))))) ∧ (¬ 0 < ((x ^^^ (iN (-1))) &&& (x - (iN 1))) → (post (((x ^^^ (iN (-1))) &&& (x - (iN 1))) &&& (iN 32)))))  : MR l T yJ11_numberOfTrailingZeros cJ11_numberOfTrailingZeros 2 (some .int) ({ frames := 0, cells := 0, slots := 0, locals := 0 }) [.int x] [] (fun v_ => ∃ (r : Int32), v_ = some (.int r) ∧ post r) := by
  refine MR.start hlt (by decide) (lv0 := [some (.int x), none]) rfl (Nat.le_of_ble_eq_true rfl) rfl ?_
  intro p e R s m args below meth c cx hr hST
  have vc := v0_
  refine g_iload_n (q := 1) cx dJ11_numberOfTrailingZeros_0 rfl rfl ?_
  refine g_iconst (q := 2) (v := iN (-1)) cx dJ11_numberOfTrailingZeros_1 rfl rfl ?_
  refine g_ixor (q := 3) cx dJ11_numberOfTrailingZeros_2 rfl ?_
  refine g_iload_n (q := 4) cx dJ11_numberOfTrailingZeros_3 rfl rfl ?_
  refine g_iconst (q := 5) (v := iN 1) cx dJ11_numberOfTrailingZeros_4 rfl rfl ?_
  refine g_isub (q := 6) cx dJ11_numberOfTrailingZeros_5 rfl ?_
  refine g_iand (q := 7) cx dJ11_numberOfTrailingZeros_6 rfl ?_
  refine g_istore_n (q := 8) (lv2 := [some (.int ((x ^^^ (iN (-1))) &&& (x - (iN 1)))), none]) cx dJ11_numberOfTrailingZeros_7 rfl (by decide) rfl rfl ?_
  refine g_iload_n (q := 9) cx dJ11_numberOfTrailingZeros_8 rfl rfl ?_
  refine g_if_gt (q := 12) (tg := 17) cx dJ11_numberOfTrailingZeros_9 (by decide) rfl (fun h_1 => ?_) (fun h_1 => ?_)
  · have vc := vc.1 h_1
    refine g_iconst (q := 18) (v := iN 1) cx dJ11_numberOfTrailingZeros_17 rfl rfl ?_
    refine g_istore_n (q := 19) (lv2 := [some (.int ((x ^^^ (iN (-1))) &&& (x - (iN 1)))), some (.int (iN 1))]) cx dJ11_numberOfTrailingZeros_18 rfl (by decide) rfl rfl ?_
    refine g_iload_n (q := 20) cx dJ11_numberOfTrailingZeros_19 rfl rfl ?_
    refine g_ldc_w (q := 23) (v := iN 65536) cx dJ11_numberOfTrailingZeros_20 q995 rfl ?_
    refine g_icmp_le (q := 26) (tg := 34) cx dJ11_numberOfTrailingZeros_23 (by decide) rfl (fun h_2 => ?_) (fun h_2 => ?_)
    · have vc := vc.1 h_2
      refine g_iload_n (q := 35) cx dJ11_numberOfTrailingZeros_34 rfl rfl ?_
      refine g_sipush (q := 38) (v := iN 256) cx dJ11_numberOfTrailingZeros_35 (by decide) rfl ?_
      refine g_icmp_le (q := 41) (tg := 49) cx dJ11_numberOfTrailingZeros_38 (by decide) rfl (fun h_3 => ?_) (fun h_3 => ?_)
      · have vc := vc.1 h_3
        refine g_iload_n (q := 50) cx dJ11_numberOfTrailingZeros_49 rfl rfl ?_
        refine g_bipush (q := 52) (v := iN 16) cx dJ11_numberOfTrailingZeros_50 (by decide) rfl ?_
        refine g_icmp_le (q := 55) (tg := 62) cx dJ11_numberOfTrailingZeros_52 (by decide) rfl (fun h_4 => ?_) (fun h_4 => ?_)
        · have vc := vc.1 h_4
          refine g_iload_n (q := 63) cx dJ11_numberOfTrailingZeros_62 rfl rfl ?_
          refine g_iconst (q := 64) (v := iN 4) cx dJ11_numberOfTrailingZeros_63 rfl rfl ?_
          refine g_icmp_le (q := 67) (tg := 74) cx dJ11_numberOfTrailingZeros_64 (by decide) rfl (fun h_5 => ?_) (fun h_5 => ?_)
          · have vc := vc.1 h_5
            refine g_iload_n (q := 75) cx dJ11_numberOfTrailingZeros_74 rfl rfl ?_
            refine g_iload_n (q := 76) cx dJ11_numberOfTrailingZeros_75 rfl rfl ?_
            refine g_iconst (q := 77) (v := iN 1) cx dJ11_numberOfTrailingZeros_76 rfl rfl ?_
            refine g_iushr (q := 78) cx dJ11_numberOfTrailingZeros_77 rfl ?_
            refine g_iadd (q := 79) cx dJ11_numberOfTrailingZeros_78 rfl ?_
            exact g_iretR cx hr rfl ⟨((iN 1) + ((((x ^^^ (iN (-1))) &&& (x - (iN 1))).toUInt32 >>> ((iN 1).toUInt32 &&& Int32.toUInt32 31)).toInt32)), rfl, vc⟩ dJ11_numberOfTrailingZeros_79
          · have vc := vc.2 h_5
            refine g_iinc (q := 70) (v := iN (1 + 2)) (lv2 := [some (.int ((x ^^^ (iN (-1))) &&& (x - (iN 1)))), some (.int (iN (1 + 2)))]) cx dJ11_numberOfTrailingZeros_67 rfl (iN_add _ _) (by decide) rfl rfl ?_
            refine g_iload_n (q := 71) cx dJ11_numberOfTrailingZeros_70 rfl rfl ?_
            refine g_iconst (q := 72) (v := iN 2) cx dJ11_numberOfTrailingZeros_71 rfl rfl ?_
            refine g_iushr (q := 73) cx dJ11_numberOfTrailingZeros_72 rfl ?_
            refine g_istore_n (q := 74) (lv2 := [some (.int ((((x ^^^ (iN (-1))) &&& (x - (iN 1))).toUInt32 >>> ((iN 2).toUInt32 &&& Int32.toUInt32 31)).toInt32)), some (.int (iN (1 + 2)))]) cx dJ11_numberOfTrailingZeros_73 rfl (by decide) rfl rfl ?_
            refine g_iload_n (q := 75) cx dJ11_numberOfTrailingZeros_74 rfl rfl ?_
            refine g_iload_n (q := 76) cx dJ11_numberOfTrailingZeros_75 rfl rfl ?_
            refine g_iconst (q := 77) (v := iN 1) cx dJ11_numberOfTrailingZeros_76 rfl rfl ?_
            refine g_iushr (q := 78) cx dJ11_numberOfTrailingZeros_77 rfl ?_
            refine g_iadd (q := 79) cx dJ11_numberOfTrailingZeros_78 rfl ?_
            exact g_iretR cx hr rfl ⟨((iN (1 + 2)) + ((((((x ^^^ (iN (-1))) &&& (x - (iN 1))).toUInt32 >>> ((iN 2).toUInt32 &&& Int32.toUInt32 31)).toInt32).toUInt32 >>> ((iN 1).toUInt32 &&& Int32.toUInt32 31)).toInt32)), rfl, vc⟩ dJ11_numberOfTrailingZeros_79
        · have vc := vc.2 h_4
          refine g_iinc (q := 58) (v := iN (1 + 4)) (lv2 := [some (.int ((x ^^^ (iN (-1))) &&& (x - (iN 1)))), some (.int (iN (1 + 4)))]) cx dJ11_numberOfTrailingZeros_55 rfl (iN_add _ _) (by decide) rfl rfl ?_
          refine g_iload_n (q := 59) cx dJ11_numberOfTrailingZeros_58 rfl rfl ?_
          refine g_iconst (q := 60) (v := iN 4) cx dJ11_numberOfTrailingZeros_59 rfl rfl ?_
          refine g_iushr (q := 61) cx dJ11_numberOfTrailingZeros_60 rfl ?_
          refine g_istore_n (q := 62) (lv2 := [some (.int ((((x ^^^ (iN (-1))) &&& (x - (iN 1))).toUInt32 >>> ((iN 4).toUInt32 &&& Int32.toUInt32 31)).toInt32)), some (.int (iN (1 + 4)))]) cx dJ11_numberOfTrailingZeros_61 rfl (by decide) rfl rfl ?_
          refine g_iload_n (q := 63) cx dJ11_numberOfTrailingZeros_62 rfl rfl ?_
          refine g_iconst (q := 64) (v := iN 4) cx dJ11_numberOfTrailingZeros_63 rfl rfl ?_
          refine g_icmp_le (q := 67) (tg := 74) cx dJ11_numberOfTrailingZeros_64 (by decide) rfl (fun h_6 => ?_) (fun h_6 => ?_)
          · have vc := vc.1 h_6
            refine g_iload_n (q := 75) cx dJ11_numberOfTrailingZeros_74 rfl rfl ?_
            refine g_iload_n (q := 76) cx dJ11_numberOfTrailingZeros_75 rfl rfl ?_
            refine g_iconst (q := 77) (v := iN 1) cx dJ11_numberOfTrailingZeros_76 rfl rfl ?_
            refine g_iushr (q := 78) cx dJ11_numberOfTrailingZeros_77 rfl ?_
            refine g_iadd (q := 79) cx dJ11_numberOfTrailingZeros_78 rfl ?_
            exact g_iretR cx hr rfl ⟨((iN (1 + 4)) + ((((((x ^^^ (iN (-1))) &&& (x - (iN 1))).toUInt32 >>> ((iN 4).toUInt32 &&& Int32.toUInt32 31)).toInt32).toUInt32 >>> ((iN 1).toUInt32 &&& Int32.toUInt32 31)).toInt32)), rfl, vc⟩ dJ11_numberOfTrailingZeros_79
          · have vc := vc.2 h_6
            refine g_iinc (q := 70) (v := iN ((1 + 4) + 2)) (lv2 := [some (.int ((((x ^^^ (iN (-1))) &&& (x - (iN 1))).toUInt32 >>> ((iN 4).toUInt32 &&& Int32.toUInt32 31)).toInt32)), some (.int (iN ((1 + 4) + 2)))]) cx dJ11_numberOfTrailingZeros_67 rfl (iN_add _ _) (by decide) rfl rfl ?_
            refine g_iload_n (q := 71) cx dJ11_numberOfTrailingZeros_70 rfl rfl ?_
            refine g_iconst (q := 72) (v := iN 2) cx dJ11_numberOfTrailingZeros_71 rfl rfl ?_
            refine g_iushr (q := 73) cx dJ11_numberOfTrailingZeros_72 rfl ?_
            refine g_istore_n (q := 74) (lv2 := [some (.int ((((((x ^^^ (iN (-1))) &&& (x - (iN 1))).toUInt32 >>> ((iN 4).toUInt32 &&& Int32.toUInt32 31)).toInt32).toUInt32 >>> ((iN 2).toUInt32 &&& Int32.toUInt32 31)).toInt32)), some (.int (iN ((1 + 4) + 2)))]) cx dJ11_numberOfTrailingZeros_73 rfl (by decide) rfl rfl ?_
            refine g_iload_n (q := 75) cx dJ11_numberOfTrailingZeros_74 rfl rfl ?_
            refine g_iload_n (q := 76) cx dJ11_numberOfTrailingZeros_75 rfl rfl ?_
            refine g_iconst (q := 77) (v := iN 1) cx dJ11_numberOfTrailingZeros_76 rfl rfl ?_
            refine g_iushr (q := 78) cx dJ11_numberOfTrailingZeros_77 rfl ?_
            refine g_iadd (q := 79) cx dJ11_numberOfTrailingZeros_78 rfl ?_
            exact g_iretR cx hr rfl ⟨((iN ((1 + 4) + 2)) + ((((((((x ^^^ (iN (-1))) &&& (x - (iN 1))).toUInt32 >>> ((iN 4).toUInt32 &&& Int32.toUInt32 31)).toInt32).toUInt32 >>> ((iN 2).toUInt32 &&& Int32.toUInt32 31)).toInt32).toUInt32 >>> ((iN 1).toUInt32 &&& Int32.toUInt32 31)).toInt32)), rfl, vc⟩ dJ11_numberOfTrailingZeros_79
      · have vc := vc.2 h_3
        refine g_iinc (q := 44) (v := iN (1 + 8)) (lv2 := [some (.int ((x ^^^ (iN (-1))) &&& (x - (iN 1)))), some (.int (iN (1 + 8)))]) cx dJ11_numberOfTrailingZeros_41 rfl (iN_add _ _) (by decide) rfl rfl ?_
        refine g_iload_n (q := 45) cx dJ11_numberOfTrailingZeros_44 rfl rfl ?_
        refine g_bipush (q := 47) (v := iN 8) cx dJ11_numberOfTrailingZeros_45 (by decide) rfl ?_
        refine g_iushr (q := 48) cx dJ11_numberOfTrailingZeros_47 rfl ?_
        refine g_istore_n (q := 49) (lv2 := [some (.int ((((x ^^^ (iN (-1))) &&& (x - (iN 1))).toUInt32 >>> ((iN 8).toUInt32 &&& Int32.toUInt32 31)).toInt32)), some (.int (iN (1 + 8)))]) cx dJ11_numberOfTrailingZeros_48 rfl (by decide) rfl rfl ?_
        refine g_iload_n (q := 50) cx dJ11_numberOfTrailingZeros_49 rfl rfl ?_
        refine g_bipush (q := 52) (v := iN 16) cx dJ11_numberOfTrailingZeros_50 (by decide) rfl ?_
        refine g_icmp_le (q := 55) (tg := 62) cx dJ11_numberOfTrailingZeros_52 (by decide) rfl (fun h_7 => ?_) (fun h_7 => ?_)
        · have vc := vc.1 h_7
          refine g_iload_n (q := 63) cx dJ11_numberOfTrailingZeros_62 rfl rfl ?_
          refine g_iconst (q := 64) (v := iN 4) cx dJ11_numberOfTrailingZeros_63 rfl rfl ?_
          refine g_icmp_le (q := 67) (tg := 74) cx dJ11_numberOfTrailingZeros_64 (by decide) rfl (fun h_8 => ?_) (fun h_8 => ?_)
          · have vc := vc.1 h_8
            refine g_iload_n (q := 75) cx dJ11_numberOfTrailingZeros_74 rfl rfl ?_
            refine g_iload_n (q := 76) cx dJ11_numberOfTrailingZeros_75 rfl rfl ?_
            refine g_iconst (q := 77) (v := iN 1) cx dJ11_numberOfTrailingZeros_76 rfl rfl ?_
            refine g_iushr (q := 78) cx dJ11_numberOfTrailingZeros_77 rfl ?_
            refine g_iadd (q := 79) cx dJ11_numberOfTrailingZeros_78 rfl ?_
            exact g_iretR cx hr rfl ⟨((iN (1 + 8)) + ((((((x ^^^ (iN (-1))) &&& (x - (iN 1))).toUInt32 >>> ((iN 8).toUInt32 &&& Int32.toUInt32 31)).toInt32).toUInt32 >>> ((iN 1).toUInt32 &&& Int32.toUInt32 31)).toInt32)), rfl, vc⟩ dJ11_numberOfTrailingZeros_79
          · have vc := vc.2 h_8
            refine g_iinc (q := 70) (v := iN ((1 + 8) + 2)) (lv2 := [some (.int ((((x ^^^ (iN (-1))) &&& (x - (iN 1))).toUInt32 >>> ((iN 8).toUInt32 &&& Int32.toUInt32 31)).toInt32)), some (.int (iN ((1 + 8) + 2)))]) cx dJ11_numberOfTrailingZeros_67 rfl (iN_add _ _) (by decide) rfl rfl ?_
            refine g_iload_n (q := 71) cx dJ11_numberOfTrailingZeros_70 rfl rfl ?_
            refine g_iconst (q := 72) (v := iN 2) cx dJ11_numberOfTrailingZeros_71 rfl rfl ?_
            refine g_iushr (q := 73) cx dJ11_numberOfTrailingZeros_72 rfl ?_
            refine g_istore_n (q := 74) (lv2 := [some (.int ((((((x ^^^ (iN (-1))) &&& (x - (iN 1))).toUInt32 >>> ((iN 8).toUInt32 &&& Int32.toUInt32 31)).toInt32).toUInt32 >>> ((iN 2).toUInt32 &&& Int32.toUInt32 31)).toInt32)), some (.int (iN ((1 + 8) + 2)))]) cx dJ11_numberOfTrailingZeros_73 rfl (by decide) rfl rfl ?_
            refine g_iload_n (q := 75) cx dJ11_numberOfTrailingZeros_74 rfl rfl ?_
            refine g_iload_n (q := 76) cx dJ11_numberOfTrailingZeros_75 rfl rfl ?_
            refine g_iconst (q := 77) (v := iN 1) cx dJ11_numberOfTrailingZeros_76 rfl rfl ?_
            refine g_iushr (q := 78) cx dJ11_numberOfTrailingZeros_77 rfl ?_
            refine g_iadd (q := 79) cx dJ11_numberOfTrailingZeros_78 rfl ?_
            exact g_iretR cx hr rfl ⟨((iN ((1 + 8) + 2)) + ((((((((x ^^^ (iN (-1))) &&& (x - (iN 1))).toUInt32 >>> ((iN 8).toUInt32 &&& Int32.toUInt32 31)).toInt32).toUInt32 >>> ((iN 2).toUInt32 &&& Int32.toUInt32 31)).toInt32).toUInt32 >>> ((iN 1).toUInt32 &&& Int32.toUInt32 31)).toInt32)), rfl, vc⟩ dJ11_numberOfTrailingZeros_79
        · have vc := vc.2 h_7
          refine g_iinc (q := 58) (v := iN ((1 + 8) + 4)) (lv2 := [some (.int ((((x ^^^ (iN (-1))) &&& (x - (iN 1))).toUInt32 >>> ((iN 8).toUInt32 &&& Int32.toUInt32 31)).toInt32)), some (.int (iN ((1 + 8) + 4)))]) cx dJ11_numberOfTrailingZeros_55 rfl (iN_add _ _) (by decide) rfl rfl ?_
          refine g_iload_n (q := 59) cx dJ11_numberOfTrailingZeros_58 rfl rfl ?_
          refine g_iconst (q := 60) (v := iN 4) cx dJ11_numberOfTrailingZeros_59 rfl rfl ?_
          refine g_iushr (q := 61) cx dJ11_numberOfTrailingZeros_60 rfl ?_
          refine g_istore_n (q := 62) (lv2 := [some (.int ((((((x ^^^ (iN (-1))) &&& (x - (iN 1))).toUInt32 >>> ((iN 8).toUInt32 &&& Int32.toUInt32 31)).toInt32).toUInt32 >>> ((iN 4).toUInt32 &&& Int32.toUInt32 31)).toInt32)), some (.int (iN ((1 + 8) + 4)))]) cx dJ11_numberOfTrailingZeros_61 rfl (by decide) rfl rfl ?_
          refine g_iload_n (q := 63) cx dJ11_numberOfTrailingZeros_62 rfl rfl ?_
          refine g_iconst (q := 64) (v := iN 4) cx dJ11_numberOfTrailingZeros_63 rfl rfl ?_
          refine g_icmp_le (q := 67) (tg := 74) cx dJ11_numberOfTrailingZeros_64 (by decide) rfl (fun h_9 => ?_) (fun h_9 => ?_)
          · have vc := vc.1 h_9
            refine g_iload_n (q := 75) cx dJ11_numberOfTrailingZeros_74 rfl rfl ?_
            refine g_iload_n (q := 76) cx dJ11_numberOfTrailingZeros_75 rfl rfl ?_
            refine g_iconst (q := 77) (v := iN 1) cx dJ11_numberOfTrailingZeros_76 rfl rfl ?_
            refine g_iushr (q := 78) cx dJ11_numberOfTrailingZeros_77 rfl ?_
            refine g_iadd (q := 79) cx dJ11_numberOfTrailingZeros_78 rfl ?_
            exact g_iretR cx hr rfl ⟨((iN ((1 + 8) + 4)) + ((((((((x ^^^ (iN (-1))) &&& (x - (iN 1))).toUInt32 >>> ((iN 8).toUInt32 &&& Int32.toUInt32 31)).toInt32).toUInt32 >>> ((iN 4).toUInt32 &&& Int32.toUInt32 31)).toInt32).toUInt32 >>> ((iN 1).toUInt32 &&& Int32.toUInt32 31)).toInt32)), rfl, vc⟩ dJ11_numberOfTrailingZeros_79
          · have vc := vc.2 h_9
            refine g_iinc (q := 70) (v := iN (((1 + 8) + 4) + 2)) (lv2 := [some (.int ((((((x ^^^ (iN (-1))) &&& (x - (iN 1))).toUInt32 >>> ((iN 8).toUInt32 &&& Int32.toUInt32 31)).toInt32).toUInt32 >>> ((iN 4).toUInt32 &&& Int32.toUInt32 31)).toInt32)), some (.int (iN (((1 + 8) + 4) + 2)))]) cx dJ11_numberOfTrailingZeros_67 rfl (iN_add _ _) (by decide) rfl rfl ?_
            refine g_iload_n (q := 71) cx dJ11_numberOfTrailingZeros_70 rfl rfl ?_
            refine g_iconst (q := 72) (v := iN 2) cx dJ11_numberOfTrailingZeros_71 rfl rfl ?_
            refine g_iushr (q := 73) cx dJ11_numberOfTrailingZeros_72 rfl ?_
            refine g_istore_n (q := 74) (lv2 := [some (.int ((((((((x ^^^ (iN (-1))) &&& (x - (iN 1))).toUInt32 >>> ((iN 8).toUInt32 &&& Int32.toUInt32 31)).toInt32).toUInt32 >>> ((iN 4).toUInt32 &&& Int32.toUInt32 31)).toInt32).toUInt32 >>> ((iN 2).toUInt32 &&& Int32.toUInt32 31)).toInt32)), some (.int (iN (((1 + 8) + 4) + 2)))]) cx dJ11_numberOfTrailingZeros_73 rfl (by decide) rfl rfl ?_
            refine g_iload_n (q := 75) cx dJ11_numberOfTrailingZeros_74 rfl rfl ?_
            refine g_iload_n (q := 76) cx dJ11_numberOfTrailingZeros_75 rfl rfl ?_
            refine g_iconst (q := 77) (v := iN 1) cx dJ11_numberOfTrailingZeros_76 rfl rfl ?_
            refine g_iushr (q := 78) cx dJ11_numberOfTrailingZeros_77 rfl ?_
            refine g_iadd (q := 79) cx dJ11_numberOfTrailingZeros_78 rfl ?_
            exact g_iretR cx hr rfl ⟨((iN (((1 + 8) + 4) + 2)) + ((((((((((x ^^^ (iN (-1))) &&& (x - (iN 1))).toUInt32 >>> ((iN 8).toUInt32 &&& Int32.toUInt32 31)).toInt32).toUInt32 >>> ((iN 4).toUInt32 &&& Int32.toUInt32 31)).toInt32).toUInt32 >>> ((iN 2).toUInt32 &&& Int32.toUInt32 31)).toInt32).toUInt32 >>> ((iN 1).toUInt32 &&& Int32.toUInt32 31)).toInt32)), rfl, vc⟩ dJ11_numberOfTrailingZeros_79
    · have vc := vc.2 h_2
      refine g_iinc (q := 29) (v := iN (1 + 16)) (lv2 := [some (.int ((x ^^^ (iN (-1))) &&& (x - (iN 1)))), some (.int (iN (1 + 16)))]) cx dJ11_numberOfTrailingZeros_26 rfl (iN_add _ _) (by decide) rfl rfl ?_
      refine g_iload_n (q := 30) cx dJ11_numberOfTrailingZeros_29 rfl rfl ?_
      refine g_bipush (q := 32) (v := iN 16) cx dJ11_numberOfTrailingZeros_30 (by decide) rfl ?_
      refine g_iushr (q := 33) cx dJ11_numberOfTrailingZeros_32 rfl ?_
      refine g_istore_n (q := 34) (lv2 := [some (.int ((((x ^^^ (iN (-1))) &&& (x - (iN 1))).toUInt32 >>> ((iN 16).toUInt32 &&& Int32.toUInt32 31)).toInt32)), some (.int (iN (1 + 16)))]) cx dJ11_numberOfTrailingZeros_33 rfl (by decide) rfl rfl ?_
      refine g_iload_n (q := 35) cx dJ11_numberOfTrailingZeros_34 rfl rfl ?_
      refine g_sipush (q := 38) (v := iN 256) cx dJ11_numberOfTrailingZeros_35 (by decide) rfl ?_
      refine g_icmp_le (q := 41) (tg := 49) cx dJ11_numberOfTrailingZeros_38 (by decide) rfl (fun h_10 => ?_) (fun h_10 => ?_)
      · have vc := vc.1 h_10
        refine g_iload_n (q := 50) cx dJ11_numberOfTrailingZeros_49 rfl rfl ?_
        refine g_bipush (q := 52) (v := iN 16) cx dJ11_numberOfTrailingZeros_50 (by decide) rfl ?_
        refine g_icmp_le (q := 55) (tg := 62) cx dJ11_numberOfTrailingZeros_52 (by decide) rfl (fun h_11 => ?_) (fun h_11 => ?_)
        · have vc := vc.1 h_11
          refine g_iload_n (q := 63) cx dJ11_numberOfTrailingZeros_62 rfl rfl ?_
          refine g_iconst (q := 64) (v := iN 4) cx dJ11_numberOfTrailingZeros_63 rfl rfl ?_
          refine g_icmp_le (q := 67) (tg := 74) cx dJ11_numberOfTrailingZeros_64 (by decide) rfl (fun h_12 => ?_) (fun h_12 => ?_)
          · have vc := vc.1 h_12
            refine g_iload_n (q := 75) cx dJ11_numberOfTrailingZeros_74 rfl rfl ?_
            refine g_iload_n (q := 76) cx dJ11_numberOfTrailingZeros_75 rfl rfl ?_
            refine g_iconst (q := 77) (v := iN 1) cx dJ11_numberOfTrailingZeros_76 rfl rfl ?_
            refine g_iushr (q := 78) cx dJ11_numberOfTrailingZeros_77 rfl ?_
            refine g_iadd (q := 79) cx dJ11_numberOfTrailingZeros_78 rfl ?_
            exact g_iretR cx hr rfl ⟨((iN (1 + 16)) + ((((((x ^^^ (iN (-1))) &&& (x - (iN 1))).toUInt32 >>> ((iN 16).toUInt32 &&& Int32.toUInt32 31)).toInt32).toUInt32 >>> ((iN 1).toUInt32 &&& Int32.toUInt32 31)).toInt32)), rfl, vc⟩ dJ11_numberOfTrailingZeros_79
          · have vc := vc.2 h_12
            refine g_iinc (q := 70) (v := iN ((1 + 16) + 2)) (lv2 := [some (.int ((((x ^^^ (iN (-1))) &&& (x - (iN 1))).toUInt32 >>> ((iN 16).toUInt32 &&& Int32.toUInt32 31)).toInt32)), some (.int (iN ((1 + 16) + 2)))]) cx dJ11_numberOfTrailingZeros_67 rfl (iN_add _ _) (by decide) rfl rfl ?_
            refine g_iload_n (q := 71) cx dJ11_numberOfTrailingZeros_70 rfl rfl ?_
            refine g_iconst (q := 72) (v := iN 2) cx dJ11_numberOfTrailingZeros_71 rfl rfl ?_
            refine g_iushr (q := 73) cx dJ11_numberOfTrailingZeros_72 rfl ?_
            refine g_istore_n (q := 74) (lv2 := [some (.int ((((((x ^^^ (iN (-1))) &&& (x - (iN 1))).toUInt32 >>> ((iN 16).toUInt32 &&& Int32.toUInt32 31)).toInt32).toUInt32 >>> ((iN 2).toUInt32 &&& Int32.toUInt32 31)).toInt32)), some (.int (iN ((1 + 16) + 2)))]) cx dJ11_numberOfTrailingZeros_73 rfl (by decide) rfl rfl ?_
            refine g_iload_n (q := 75) cx dJ11_numberOfTrailingZeros_74 rfl rfl ?_
            refine g_iload_n (q := 76) cx dJ11_numberOfTrailingZeros_75 rfl rfl ?_
            refine g_iconst (q := 77) (v := iN 1) cx dJ11_numberOfTrailingZeros_76 rfl rfl ?_
            refine g_iushr (q := 78) cx dJ11_numberOfTrailingZeros_77 rfl ?_
            refine g_iadd (q := 79) cx dJ11_numberOfTrailingZeros_78 rfl ?_
            exact g_iretR cx hr rfl ⟨((iN ((1 + 16) + 2)) + ((((((((x ^^^ (iN (-1))) &&& (x - (iN 1))).toUInt32 >>> ((iN 16).toUInt32 &&& Int32.toUInt32 31)).toInt32).toUInt32 >>> ((iN 2).toUInt32 &&& Int32.toUInt32 31)).toInt32).toUInt32 >>> ((iN 1).toUInt32 &&& Int32.toUInt32 31)).toInt32)), rfl, vc⟩ dJ11_numberOfTrailingZeros_79
        · have vc := vc.2 h_11
          refine g_iinc (q := 58) (v := iN ((1 + 16) + 4)) (lv2 := [some (.int ((((x ^^^ (iN (-1))) &&& (x - (iN 1))).toUInt32 >>> ((iN 16).toUInt32 &&& Int32.toUInt32 31)).toInt32)), some (.int (iN ((1 + 16) + 4)))]) cx dJ11_numberOfTrailingZeros_55 rfl (iN_add _ _) (by decide) rfl rfl ?_
          refine g_iload_n (q := 59) cx dJ11_numberOfTrailingZeros_58 rfl rfl ?_
          refine g_iconst (q := 60) (v := iN 4) cx dJ11_numberOfTrailingZeros_59 rfl rfl ?_
          refine g_iushr (q := 61) cx dJ11_numberOfTrailingZeros_60 rfl ?_
          refine g_istore_n (q := 62) (lv2 := [some (.int ((((((x ^^^ (iN (-1))) &&& (x - (iN 1))).toUInt32 >>> ((iN 16).toUInt32 &&& Int32.toUInt32 31)).toInt32).toUInt32 >>> ((iN 4).toUInt32 &&& Int32.toUInt32 31)).toInt32)), some (.int (iN ((1 + 16) + 4)))]) cx dJ11_numberOfTrailingZeros_61 rfl (by decide) rfl rfl ?_
          refine g_iload_n (q := 63) cx dJ11_numberOfTrailingZeros_62 rfl rfl ?_
          refine g_iconst (q := 64) (v := iN 4) cx dJ11_numberOfTrailingZeros_63 rfl rfl ?_
          refine g_icmp_le (q := 67) (tg := 74) cx dJ11_numberOfTrailingZeros_64 (by decide) rfl (fun h_13 => ?_) (fun h_13 => ?_)
          · have vc := vc.1 h_13
            refine g_iload_n (q := 75) cx dJ11_numberOfTrailingZeros_74 rfl rfl ?_
            refine g_iload_n (q := 76) cx dJ11_numberOfTrailingZeros_75 rfl rfl ?_
            refine g_iconst (q := 77) (v := iN 1) cx dJ11_numberOfTrailingZeros_76 rfl rfl ?_
            refine g_iushr (q := 78) cx dJ11_numberOfTrailingZeros_77 rfl ?_
            refine g_iadd (q := 79) cx dJ11_numberOfTrailingZeros_78 rfl ?_
            exact g_iretR cx hr rfl ⟨((iN ((1 + 16) + 4)) + ((((((((x ^^^ (iN (-1))) &&& (x - (iN 1))).toUInt32 >>> ((iN 16).toUInt32 &&& Int32.toUInt32 31)).toInt32).toUInt32 >>> ((iN 4).toUInt32 &&& Int32.toUInt32 31)).toInt32).toUInt32 >>> ((iN 1).toUInt32 &&& Int32.toUInt32 31)).toInt32)), rfl, vc⟩ dJ11_numberOfTrailingZeros_79
          · have vc := vc.2 h_13
            refine g_iinc (q := 70) (v := iN (((1 + 16) + 4) + 2)) (lv2 := [some (.int ((((((x ^^^ (iN (-1))) &&& (x - (iN 1))).toUInt32 >>> ((iN 16).toUInt32 &&& Int32.toUInt32 31)).toInt32).toUInt32 >>> ((iN 4).toUInt32 &&& Int32.toUInt32 31)).toInt32)), some (.int (iN (((1 + 16) + 4) + 2)))]) cx dJ11_numberOfTrailingZeros_67 rfl (iN_add _ _) (by decide) rfl rfl ?_
            refine g_iload_n (q := 71) cx dJ11_numberOfTrailingZeros_70 rfl rfl ?_
            refine g_iconst (q := 72) (v := iN 2) cx dJ11_numberOfTrailingZeros_71 rfl rfl ?_
            refine g_iushr (q := 73) cx dJ11_numberOfTrailingZeros_72 rfl ?_
            refine g_istore_n (q := 74) (lv2 := [some (.int ((((((((x ^^^ (iN (-1))) &&& (x - (iN 1))).toUInt32 >>> ((iN 16).toUInt32 &&& Int32.toUInt32 31)).toInt32).toUInt32 >>> ((iN 4).toUInt32 &&& Int32.toUInt32 31)).toInt32).toUInt32 >>> ((iN 2).toUInt32 &&& Int32.toUInt32 31)).toInt32)), some (.int (iN (((1 + 16) + 4) + 2)))]) cx dJ11_numberOfTrailingZeros_73 rfl (by decide) rfl rfl ?_
            refine g_iload_n (q := 75) cx dJ11_numberOfTrailingZeros_74 rfl rfl ?_
            refine g_iload_n (q := 76) cx dJ11_numberOfTrailingZeros_75 rfl rfl ?_
            refine g_iconst (q := 77) (v := iN 1) cx dJ11_numberOfTrailingZeros_76 rfl rfl ?_
            refine g_iushr (q := 78) cx dJ11_numberOfTrailingZeros_77 rfl ?_
            refine g_iadd (q := 79) cx dJ11_numberOfTrailingZeros_78 rfl ?_
            exact g_iretR cx hr rfl ⟨((iN (((1 + 16) + 4) + 2)) + ((((((((((x ^^^ (iN (-1))) &&& (x - (iN 1))).toUInt32 >>> ((iN 16).toUInt32 &&& Int32.toUInt32 31)).toInt32).toUInt32 >>> ((iN 4).toUInt32 &&& Int32.toUInt32 31)).toInt32).toUInt32 >>> ((iN 2).toUInt32 &&& Int32.toUInt32 31)).toInt32).toUInt32 >>> ((iN 1).toUInt32 &&& Int32.toUInt32 31)).toInt32)), rfl, vc⟩ dJ11_numberOfTrailingZeros_79
      · have vc := vc.2 h_10
        refine g_iinc (q := 44) (v := iN ((1 + 16) + 8)) (lv2 := [some (.int ((((x ^^^ (iN (-1))) &&& (x - (iN 1))).toUInt32 >>> ((iN 16).toUInt32 &&& Int32.toUInt32 31)).toInt32)), some (.int (iN ((1 + 16) + 8)))]) cx dJ11_numberOfTrailingZeros_41 rfl (iN_add _ _) (by decide) rfl rfl ?_
        refine g_iload_n (q := 45) cx dJ11_numberOfTrailingZeros_44 rfl rfl ?_
        refine g_bipush (q := 47) (v := iN 8) cx dJ11_numberOfTrailingZeros_45 (by decide) rfl ?_
        refine g_iushr (q := 48) cx dJ11_numberOfTrailingZeros_47 rfl ?_
        refine g_istore_n (q := 49) (lv2 := [some (.int ((((((x ^^^ (iN (-1))) &&& (x - (iN 1))).toUInt32 >>> ((iN 16).toUInt32 &&& Int32.toUInt32 31)).toInt32).toUInt32 >>> ((iN 8).toUInt32 &&& Int32.toUInt32 31)).toInt32)), some (.int (iN ((1 + 16) + 8)))]) cx dJ11_numberOfTrailingZeros_48 rfl (by decide) rfl rfl ?_
        refine g_iload_n (q := 50) cx dJ11_numberOfTrailingZeros_49 rfl rfl ?_
        refine g_bipush (q := 52) (v := iN 16) cx dJ11_numberOfTrailingZeros_50 (by decide) rfl ?_
        refine g_icmp_le (q := 55) (tg := 62) cx dJ11_numberOfTrailingZeros_52 (by decide) rfl (fun h_14 => ?_) (fun h_14 => ?_)
        · have vc := vc.1 h_14
          refine g_iload_n (q := 63) cx dJ11_numberOfTrailingZeros_62 rfl rfl ?_
          refine g_iconst (q := 64) (v := iN 4) cx dJ11_numberOfTrailingZeros_63 rfl rfl ?_
          refine g_icmp_le (q := 67) (tg := 74) cx dJ11_numberOfTrailingZeros_64 (by decide) rfl (fun h_15 => ?_) (fun h_15 => ?_)
          · have vc := vc.1 h_15
            refine g_iload_n (q := 75) cx dJ11_numberOfTrailingZeros_74 rfl rfl ?_
            refine g_iload_n (q := 76) cx dJ11_numberOfTrailingZeros_75 rfl rfl ?_
            refine g_iconst (q := 77) (v := iN 1) cx dJ11_numberOfTrailingZeros_76 rfl rfl ?_
            refine g_iushr (q := 78) cx dJ11_numberOfTrailingZeros_77 rfl ?_
            refine g_iadd (q := 79) cx dJ11_numberOfTrailingZeros_78 rfl ?_
            exact g_iretR cx hr rfl ⟨((iN ((1 + 16) + 8)) + ((((((((x ^^^ (iN (-1))) &&& (x - (iN 1))).toUInt32 >>> ((iN 16).toUInt32 &&& Int32.toUInt32 31)).toInt32).toUInt32 >>> ((iN 8).toUInt32 &&& Int32.toUInt32 31)).toInt32).toUInt32 >>> ((iN 1).toUInt32 &&& Int32.toUInt32 31)).toInt32)), rfl, vc⟩ dJ11_numberOfTrailingZeros_79
          · have vc := vc.2 h_15
            refine g_iinc (q := 70) (v := iN (((1 + 16) + 8) + 2)) (lv2 := [some (.int ((((((x ^^^ (iN (-1))) &&& (x - (iN 1))).toUInt32 >>> ((iN 16).toUInt32 &&& Int32.toUInt32 31)).toInt32).toUInt32 >>> ((iN 8).toUInt32 &&& Int32.toUInt32 31)).toInt32)), some (.int (iN (((1 + 16) + 8) + 2)))]) cx dJ11_numberOfTrailingZeros_67 rfl (iN_add _ _) (by decide) rfl rfl ?_
            refine g_iload_n (q := 71) cx dJ11_numberOfTrailingZeros_70 rfl rfl ?_
            refine g_iconst (q := 72) (v := iN 2) cx dJ11_numberOfTrailingZeros_71 rfl rfl ?_
            refine g_iushr (q := 73) cx dJ11_numberOfTrailingZeros_72 rfl ?_
            refine g_istore_n (q := 74) (lv2 := [some (.int ((((((((x ^^^ (iN (-1))) &&& (x - (iN 1))).toUInt32 >>> ((iN 16).toUInt32 &&& Int32.toUInt32 31)).toInt32).toUInt32 >>> ((iN 8).toUInt32 &&& Int32.toUInt32 31)).toInt32).toUInt32 >>> ((iN 2).toUInt32 &&& Int32.toUInt32 31)).toInt32)), some (.int (iN (((1 + 16) + 8) + 2)))]) cx dJ11_numberOfTrailingZeros_73 rfl (by decide) rfl rfl ?_
            refine g_iload_n (q := 75) cx dJ11_numberOfTrailingZeros_74 rfl rfl ?_
            refine g_iload_n (q := 76) cx dJ11_numberOfTrailingZeros_75 rfl rfl ?_
            refine g_iconst (q := 77) (v := iN 1) cx dJ11_numberOfTrailingZeros_76 rfl rfl ?_
            refine g_iushr (q := 78) cx dJ11_numberOfTrailingZeros_77 rfl ?_
            refine g_iadd (q := 79) cx dJ11_numberOfTrailingZeros_78 rfl ?_
            exact g_iretR cx hr rfl ⟨((iN (((1 + 16) + 8) + 2)) + ((((((((((x ^^^ (iN (-1))) &&& (x - (iN 1))).toUInt32 >>> ((iN 16).toUInt32 &&& Int32.toUInt32 31)).toInt32).toUInt32 >>> ((iN 8).toUInt32 &&& Int32.toUInt32 31)).toInt32).toUInt32 >>> ((iN 2).toUInt32 &&& Int32.toUInt32 31)).toInt32).toUInt32 >>> ((iN 1).toUInt32 &&& Int32.toUInt32 31)).toInt32)), rfl, vc⟩ dJ11_numberOfTrailingZeros_79
        · have vc := vc.2 h_14
          refine g_iinc (q := 58) (v := iN (((1 + 16) + 8) + 4)) (lv2 := [some (.int ((((((x ^^^ (iN (-1))) &&& (x - (iN 1))).toUInt32 >>> ((iN 16).toUInt32 &&& Int32.toUInt32 31)).toInt32).toUInt32 >>> ((iN 8).toUInt32 &&& Int32.toUInt32 31)).toInt32)), some (.int (iN (((1 + 16) + 8) + 4)))]) cx dJ11_numberOfTrailingZeros_55 rfl (iN_add _ _) (by decide) rfl rfl ?_
          refine g_iload_n (q := 59) cx dJ11_numberOfTrailingZeros_58 rfl rfl ?_
          refine g_iconst (q := 60) (v := iN 4) cx dJ11_numberOfTrailingZeros_59 rfl rfl ?_
          refine g_iushr (q := 61) cx dJ11_numberOfTrailingZeros_60 rfl ?_
          refine g_istore_n (q := 62) (lv2 := [some (.int ((((((((x ^^^ (iN (-1))) &&& (x - (iN 1))).toUInt32 >>> ((iN 16).toUInt32 &&& Int32.toUInt32 31)).toInt32).toUInt32 >>> ((iN 8).toUInt32 &&& Int32.toUInt32 31)).toInt32).toUInt32 >>> ((iN 4).toUInt32 &&& Int32.toUInt32 31)).toInt32)), some (.int (iN (((1 + 16) + 8) + 4)))]) cx dJ11_numberOfTrailingZeros_61 rfl (by decide) rfl rfl ?_
          refine g_iload_n (q := 63) cx dJ11_numberOfTrailingZeros_62 rfl rfl ?_
          refine g_iconst (q := 64) (v := iN 4) cx dJ11_numberOfTrailingZeros_63 rfl rfl ?_
          refine g_icmp_le (q := 67) (tg := 74) cx dJ11_numberOfTrailingZeros_64 (by decide) rfl (fun h_16 => ?_) (fun h_16 => ?_)
          · have vc := vc.1 h_16
            refine g_iload_n (q := 75) cx dJ11_numberOfTrailingZeros_74 rfl rfl ?_
            refine g_iload_n (q := 76) cx dJ11_numberOfTrailingZeros_75 rfl rfl ?_
            refine g_iconst (q := 77) (v := iN 1) cx dJ11_numberOfTrailingZeros_76 rfl rfl ?_
            refine g_iushr (q := 78) cx dJ11_numberOfTrailingZeros_77 rfl ?_
            refine g_iadd (q := 79) cx dJ11_numberOfTrailingZeros_78 rfl ?_
            exact g_iretR cx hr rfl ⟨((iN (((1 + 16) + 8) + 4)) + ((((((((((x ^^^ (iN (-1))) &&& (x - (iN 1))).toUInt32 >>> ((iN 16).toUInt32 &&& Int32.toUInt32 31)).toInt32).toUInt32 >>> ((iN 8).toUInt32 &&& Int32.toUInt32 31)).toInt32).toUInt32 >>> ((iN 4).toUInt32 &&& Int32.toUInt32 31)).toInt32).toUInt32 >>> ((iN 1).toUInt32 &&& Int32.toUInt32 31)).toInt32)), rfl, vc⟩ dJ11_numberOfTrailingZeros_79
          · have vc := vc.2 h_16
            refine g_iinc (q := 70) (v := iN ((((1 + 16) + 8) + 4) + 2)) (lv2 := [some (.int ((((((((x ^^^ (iN (-1))) &&& (x - (iN 1))).toUInt32 >>> ((iN 16).toUInt32 &&& Int32.toUInt32 31)).toInt32).toUInt32 >>> ((iN 8).toUInt32 &&& Int32.toUInt32 31)).toInt32).toUInt32 >>> ((iN 4).toUInt32 &&& Int32.toUInt32 31)).toInt32)), some (.int (iN ((((1 + 16) + 8) + 4) + 2)))]) cx dJ11_numberOfTrailingZeros_67 rfl (iN_add _ _) (by decide) rfl rfl ?_
            refine g_iload_n (q := 71) cx dJ11_numberOfTrailingZeros_70 rfl rfl ?_
            refine g_iconst (q := 72) (v := iN 2) cx dJ11_numberOfTrailingZeros_71 rfl rfl ?_
            refine g_iushr (q := 73) cx dJ11_numberOfTrailingZeros_72 rfl ?_
            refine g_istore_n (q := 74) (lv2 := [some (.int ((((((((((x ^^^ (iN (-1))) &&& (x - (iN 1))).toUInt32 >>> ((iN 16).toUInt32 &&& Int32.toUInt32 31)).toInt32).toUInt32 >>> ((iN 8).toUInt32 &&& Int32.toUInt32 31)).toInt32).toUInt32 >>> ((iN 4).toUInt32 &&& Int32.toUInt32 31)).toInt32).toUInt32 >>> ((iN 2).toUInt32 &&& Int32.toUInt32 31)).toInt32)), some (.int (iN ((((1 + 16) + 8) + 4) + 2)))]) cx dJ11_numberOfTrailingZeros_73 rfl (by decide) rfl rfl ?_
            refine g_iload_n (q := 75) cx dJ11_numberOfTrailingZeros_74 rfl rfl ?_
            refine g_iload_n (q := 76) cx dJ11_numberOfTrailingZeros_75 rfl rfl ?_
            refine g_iconst (q := 77) (v := iN 1) cx dJ11_numberOfTrailingZeros_76 rfl rfl ?_
            refine g_iushr (q := 78) cx dJ11_numberOfTrailingZeros_77 rfl ?_
            refine g_iadd (q := 79) cx dJ11_numberOfTrailingZeros_78 rfl ?_
            exact g_iretR cx hr rfl ⟨((iN ((((1 + 16) + 8) + 4) + 2)) + ((((((((((((x ^^^ (iN (-1))) &&& (x - (iN 1))).toUInt32 >>> ((iN 16).toUInt32 &&& Int32.toUInt32 31)).toInt32).toUInt32 >>> ((iN 8).toUInt32 &&& Int32.toUInt32 31)).toInt32).toUInt32 >>> ((iN 4).toUInt32 &&& Int32.toUInt32 31)).toInt32).toUInt32 >>> ((iN 2).toUInt32 &&& Int32.toUInt32 31)).toInt32).toUInt32 >>> ((iN 1).toUInt32 &&& Int32.toUInt32 31)).toInt32)), rfl, vc⟩ dJ11_numberOfTrailingZeros_79
  · have vc := vc.2 h_1
    refine g_iload_n (q := 13) cx dJ11_numberOfTrailingZeros_12 rfl rfl ?_
    refine g_bipush (q := 15) (v := iN 32) cx dJ11_numberOfTrailingZeros_13 (by decide) rfl ?_
    refine g_iand (q := 16) cx dJ11_numberOfTrailingZeros_15 rfl ?_
    exact g_iretR cx hr rfl ⟨(((x ^^^ (iN (-1))) &&& (x - (iN 1))) &&& (iN 32)), rfl, vc⟩ dJ11_numberOfTrailingZeros_16

def ctz9 (x : Nat) : Nat := if x.testBit 0 then 0 else if x.testBit 1 then 1 else if x.testBit 2 then 2 else if x.testBit 3 then 3 else if x.testBit 4 then 4 else if x.testBit 5 then 5 else if x.testBit 6 then 6 else if x.testBit 7 then 7 else 8
set_option maxRecDepth 100000 in
theorem k_J11_bitCount (l : Launch) (hlt : l.stackTraces = false) (T : GT) (z : Int) (hp0 : 0 ≤ z ∧ z < 512) : MR l T yJ11_bitCount cJ11_bitCount 1 (some .int) ({ frames := 0, cells := 0, slots := 0, locals := 0 }) [.int (iN z)] [] (fun v_ => ∃ (r : Int32), v_ = some (.int r) ∧ r = (iN ((bits9 z.toNat : Nat) : Int))) := by
  refine w_J11_bitCount0 l hlt T (iN z) _ ?_
  obtain ⟨n, rfl⟩ := Int.eq_ofNat_of_zero_le (show 0 ≤ z by omega)
  have hn : n < 512 := by omega
  have hn1 : 0 ≤ n := by omega
  rw [Int.toNat_natCast]
  clear hp0 hlt l T
  revert n
  decide +kernel

set_option maxRecDepth 100000 in
theorem k_J11_numberOfTrailingZeros (l : Launch) (hlt : l.stackTraces = false) (T : GT) (z : Int) (hp0 : 1 ≤ z ∧ z < 512) : MR l T yJ11_numberOfTrailingZeros cJ11_numberOfTrailingZeros 2 (some .int) ({ frames := 0, cells := 0, slots := 0, locals := 0 }) [.int (iN z)] [] (fun v_ => ∃ (r : Int32), v_ = some (.int r) ∧ r = (iN ((ctz9 z.toNat : Nat) : Int))) := by
  refine w_J11_ntz0 l hlt T (iN z) _ ?_
  obtain ⟨n, rfl⟩ := Int.eq_ofNat_of_zero_le (show 0 ≤ z by omega)
  have hn : n < 512 := by omega
  have hn1 : 1 ≤ n := by omega
  rw [Int.toNat_natCast]
  clear hp0 hlt l T
  have f1 : ∀ n : Nat, n < 512 → 1 ≤ n → (((iN n ^^^ iN (-1)) &&& (iN n - iN 1)) ≤ iN 65536 ∧ ((iN n ^^^ iN (-1)) &&& (iN n - iN 1)) ≤ iN 256) := by decide +kernel
  refine ⟨fun h0 => ⟨fun h1 => ⟨fun h2 => ⟨fun h3 => ⟨fun h4 => ?_, fun h4 => ?_⟩, fun h3 => ⟨fun h4 => ?_, fun h4 => ?_⟩⟩, fun h2 => absurd (f1 n hn hn1).2 h2⟩, fun h1 => absurd (f1 n hn hn1).1 h1⟩, fun h0 => ?_⟩
  · clear f1 h1 h2 h3
    revert n
    decide +kernel
  · clear f1 h0 h1 h2
    revert n
    decide +kernel
  · clear f1 h0 h1 h2
    revert n
    decide +kernel
  · clear f1 h0 h1 h2
    revert n
    decide +kernel
  · clear f1
    revert n
    decide +kernel
