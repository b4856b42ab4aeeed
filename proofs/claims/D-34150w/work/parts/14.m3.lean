set_option maxRecDepth 100000 in
set_option maxHeartbeats 4000000 in
theorem w_X3_tell (l : Launch) (hlt : l.stackTraces = false) (T : GT) (mo : Nat) (am : Nat) (ae : Nat) (ap : Nat) (ab : Nat) (aw : Nat) (ac : Nat) (an : Nat) (a0 : Nat) (a1 : Nat) (a2 : Nat) (th : Int) (many : Int) (coins : Int) (masses : Nat → Int) (errors : Nat → Int) (mass : Int) (err : Int) (n : Nat)  (post : Int → Int → Int → (Nat → Int) → (Nat → Int) → Prop) (v0_ : (-2147483648 ≤ mass ∧ mass < 2147483648) ∧ (((decide ((1 : Int) ≤ mass) && decide (mass ≤ (500 : Int))) = false → (post 0 1 many masses errors)) ∧ ((decide ((1 : Int) ≤ mass) && decide (mass ≤ (500 : Int))) = true → ((-2147483648 ≤ err ∧ err < 2147483648) ∧ (((decide ((0 : Int) ≤ err) && decide (err ≤ (9 : Int))) = true → ((-2147483648 ≤ many ∧ many < 2147483648) ∧ ((¬ many = 7 → ((0 ≤ many ∧ many < 7) ∧ ((0 ≤ many ∧ many < 7) ∧ (post ((many + 1) - 1) 0 (many + 1) (va_up masses many.toNat mass) (va_up errors many.toNat err))))) ∧ (many = 7 → (post 0 2 many masses errors))))) ∧ ((decide ((0 : Int) ≤ err) && decide (err ≤ (9 : Int))) = false → (post 0 1 many masses errors)))))))  : MW l T yX3_tell cX3_tell 3 (some .int) ({ frames := 1, cells := 0, slots := 0, locals := 22 }) [.ref mo, .int (iN mass), .int (iN err)] [(mo, .inr (2, [.int (iN th), .ref am, .ref ae, .int (iN many), .ref ap, .ref ab, .ref aw, .int (iN coins), .ref ac, .ref an, .ref a0, .ref a1, .ref a2])), (am, .inl (T.2.1 0, 7, .inl (zA masses))), (ae, .inl (T.2.1 0, 7, .inl (zA errors)))] (fun v_ wn_ => ∃ (r : Int), ∃ (th2 : Int), ∃ (many2 : Int), ∃ (masses2 : Nat → Int), ∃ (errors2 : Nat → Int), v_ = some (.int (iN r)) ∧ wn_ = [(mo, .inr (2, [.int (iN th2), .ref am, .ref ae, .int (iN many2), .ref ap, .ref ab, .ref aw, .int (iN coins), .ref ac, .ref an, .ref a0, .ref a1, .ref a2])), (am, .inl (T.2.1 0, 7, .inl (zA masses2))), (ae, .inl (T.2.1 0, 7, .inl (zA errors2)))] ∧ post r th2 many2 masses2 errors2) 0 0 := by
  refine MW.start hlt (by decide) (lv0 := [some (.ref mo), some (.int (iN mass)), some (.int (iN err))]) rfl (Nat.le_of_ble_eq_true rfl) rfl ?_
  intro p e R s m args below meth c A cx hr hnm hST hrw
  have vc := v0_
  refine g_aload_n (q := 1) cx dX3_tell_0 rfl rfl ?_
  refine g_iload_n (q := 2) cx dX3_tell_1 rfl rfl ?_
  refine g_iconst (q := 3) (v := iN 1) cx dX3_tell_2 rfl rfl ?_
  refine g_sipush (q := 6) (v := iN 500) cx dX3_tell_3 (by decide) rfl ?_
  refine g_cSr (q := 9) (As := [.int (iN mass), .int (iN 1), .int (iN 500)]) (wr := [(mo, .inr (2, [.int (iN th), .ref am, .ref ae, .int (iN many), .ref ap, .ref ab, .ref aw, .int (iN coins), .ref ac, .ref an, .ref a0, .ref a1, .ref a2])), (am, .inl (T.2.1 0, 7, .inl (zA masses))), (ae, .inl (T.2.1 0, 7, .inl (zA errors)))]) (st := [.ref mo]) cx hST (k_X3_in l hlt T mass 1 500 (vc.1) (by decide) (by decide)) q1119 s_X3_in rfl g_perm0 (g_rmB rfl) (Nat.le_of_ble_eq_true rfl) dX3_tell_6 rfl (fun v_ hv_ => ?_)
  have vc := vc.2
  obtain ⟨b_1, rfl, e_2⟩ := hv_
  subst e_2
  refine g_st (st2 := [.int (bI (decide ((1 : Int) ≤ mass) && decide (mass ≤ (500 : Int)))), .ref mo]) rfl ?_
  refine g_if_eq (q := 12) (tg := 22) cx dX3_tell_9 (by decide) rfl (fun h_3 => ?_) (fun h_3 => ?_)
  · have vc := vc.1 (bI_0.mp h_3)
    refine g_iconst (q := 23) (v := iN 1) cx dX3_tell_22 rfl rfl ?_
    refine g_goto (q := 40) cx dX3_tell_23 (by decide) ?_
    refine g_cVw (q := 43) (b := mo) (As := [.int (iN 1)]) (wr := [(am, .inl (T.2.1 0, 7, .inl (zA masses))), (ae, .inl (T.2.1 0, 7, .inl (zA errors)))]) (st := []) cx hST hrw (k_X3_goesWell l hlt T mo am ae ap ab aw ac an a0 a1 a2 th many coins 1 (by decide)) q1122 s_X3_goesWell rfl 0 rfl rfl (g_perm [1, 2, 0] rfl rfl) (g_rmB rfl) (Nat.le_of_ble_eq_true rfl) dX3_tell_40 rfl (fun v_ wn_ hv_ => ?_)
    obtain ⟨b_4, th2_5, rfl, rfl, e_6⟩ := hv_
    obtain ⟨rfl, rfl⟩ := e_6
    refine g_wp (ws2 := [(mo, .inr (2, [.int (iN 1), .ref am, .ref ae, .int (iN many), .ref ap, .ref ab, .ref aw, .int (iN coins), .ref ac, .ref an, .ref a0, .ref a1, .ref a2])), (am, .inl (T.2.1 0, 7, .inl (zA masses))), (ae, .inl (T.2.1 0, 7, .inl (zA errors)))]) (g_perm [2, 0, 1] rfl rfl) ?_
    refine g_cs (cells2 := 0) (slots2 := 0) (ws2 := [(mo, .inr (2, [.int (iN 1), .ref am, .ref ae, .int (iN many), .ref ap, .ref ab, .ref aw, .int (iN coins), .ref ac, .ref an, .ref a0, .ref a1, .ref a2])), (am, .inl (T.2.1 0, 7, .inl (zA masses))), (ae, .inl (T.2.1 0, 7, .inl (zA errors)))]) rfl rfl rfl ?_
    refine g_st (st2 := [.int (bI false)]) rfl ?_
    refine g_if_ne (q := 46) (tg := 48) cx dX3_tell_43 (by decide) rfl (fun h => absurd h (by decide)) (fun _ => ?_)
    refine g_iconst (q := 47) (v := iN 0) cx dX3_tell_46 rfl rfl ?_
    exact g_iretW cx hr rfl ⟨0, 1, many, masses, errors, rfl, rfl, vc⟩ (by first | exact Nat.le_of_ble_eq_true rfl | omega) (by first | exact Nat.le_of_ble_eq_true rfl | omega) dX3_tell_47
  · have vc := vc.2 (bI_n0.mp h_3)
    refine g_iload_n (q := 13) cx dX3_tell_12 rfl rfl ?_
    refine g_iconst (q := 14) (v := iN 0) cx dX3_tell_13 rfl rfl ?_
    refine g_bipush (q := 16) (v := iN 9) cx dX3_tell_14 (by decide) rfl ?_
    refine g_cSr (q := 19) (As := [.int (iN err), .int (iN 0), .int (iN 9)]) (wr := [(mo, .inr (2, [.int (iN th), .ref am, .ref ae, .int (iN many), .ref ap, .ref ab, .ref aw, .int (iN coins), .ref ac, .ref an, .ref a0, .ref a1, .ref a2])), (am, .inl (T.2.1 0, 7, .inl (zA masses))), (ae, .inl (T.2.1 0, 7, .inl (zA errors)))]) (st := [.ref mo]) cx hST (k_X3_in l hlt T err 0 9 (vc.1) (by decide) (by decide)) q1119 s_X3_in rfl g_perm0 (g_rmB rfl) (Nat.le_of_ble_eq_true rfl) dX3_tell_16 rfl (fun v_ hv_ => ?_)
    have vc := vc.2
    obtain ⟨b_7, rfl, e_8⟩ := hv_
    subst e_8
    refine g_st (st2 := [.int (bI (decide ((0 : Int) ≤ err) && decide (err ≤ (9 : Int)))), .ref mo]) rfl ?_
    refine g_if_ne (q := 22) (tg := 26) cx dX3_tell_19 (by decide) rfl (fun h_9 => ?_) (fun h_9 => ?_)
    · have vc := vc.1 (bI_n0.mp h_9)
      refine g_aload_n (q := 27) cx dX3_tell_26 rfl rfl ?_
      refine g_get (q := 30) cx k_cX3 0 rfl 3 (by decide) q1073 (Or.inl rfl) rfl dX3_tell_27 rfl ?_
      refine g_bipush (q := 32) (v := iN 7) cx dX3_tell_30 (by decide) rfl ?_
      refine g_icmp_neZ (q := 35) (tg := 39) cx vc.1 (by decide) dX3_tell_32 (by decide) rfl (fun h_10 => ?_) (fun h_10 => ?_)
      · have vc := vc.2.1 h_10
        refine g_iconst (q := 40) (v := iN 0) cx dX3_tell_39 rfl rfl ?_
        refine g_cVw (q := 43) (b := mo) (As := [.int (iN 0)]) (wr := [(am, .inl (T.2.1 0, 7, .inl (zA masses))), (ae, .inl (T.2.1 0, 7, .inl (zA errors)))]) (st := []) cx hST hrw (k_X3_goesWell l hlt T mo am ae ap ab aw ac an a0 a1 a2 th many coins 0 (by decide)) q1122 s_X3_goesWell rfl 0 rfl rfl (g_perm [1, 2, 0] rfl rfl) (g_rmB rfl) (Nat.le_of_ble_eq_true rfl) dX3_tell_40 rfl (fun v_ wn_ hv_ => ?_)
        obtain ⟨b_11, th2_12, rfl, rfl, e_13⟩ := hv_
        obtain ⟨rfl, rfl⟩ := e_13
        refine g_wp (ws2 := [(mo, .inr (2, [.int (iN 0), .ref am, .ref ae, .int (iN many), .ref ap, .ref ab, .ref aw, .int (iN coins), .ref ac, .ref an, .ref a0, .ref a1, .ref a2])), (am, .inl (T.2.1 0, 7, .inl (zA masses))), (ae, .inl (T.2.1 0, 7, .inl (zA errors)))]) (g_perm [2, 0, 1] rfl rfl) ?_
        refine g_cs (cells2 := 0) (slots2 := 0) (ws2 := [(mo, .inr (2, [.int (iN 0), .ref am, .ref ae, .int (iN many), .ref ap, .ref ab, .ref aw, .int (iN coins), .ref ac, .ref an, .ref a0, .ref a1, .ref a2])), (am, .inl (T.2.1 0, 7, .inl (zA masses))), (ae, .inl (T.2.1 0, 7, .inl (zA errors)))]) rfl rfl rfl ?_
        refine g_st (st2 := [.int (bI true)]) rfl ?_
        refine g_if_ne (q := 46) (tg := 48) cx dX3_tell_43 (by decide) rfl (fun _ => ?_) (fun h => absurd h (by decide))
        refine g_aload_n (q := 49) cx dX3_tell_48 rfl rfl ?_
        refine g_get (q := 52) cx k_cX3 0 rfl 1 (by decide) q1071 (Or.inl rfl) rfl dX3_tell_49 rfl ?_
        refine g_aload_n (q := 53) cx dX3_tell_52 rfl rfl ?_
        refine g_get (q := 56) cx k_cX3 0 rfl 3 (by decide) q1073 (Or.inl rfl) rfl dX3_tell_53 rfl ?_
        refine g_iload_n (q := 57) cx dX3_tell_56 rfl rfl ?_
        refine g_iastZ (q := 58) (ws2 := [(mo, .inr (2, [.int (iN 0), .ref am, .ref ae, .int (iN many), .ref ap, .ref ab, .ref aw, .int (iN coins), .ref ac, .ref an, .ref a0, .ref a1, .ref a2])), (am, .inl (T.2.1 0, 7, .inl (zA (va_up masses many.toNat mass)))), (ae, .inl (T.2.1 0, 7, .inl (zA errors)))]) cx hrw 1 (by decide) rfl vc.1 rfl dX3_tell_57 rfl ?_
        have vc := vc.2
        refine g_aload_n (q := 59) cx dX3_tell_58 rfl rfl ?_
        refine g_get (q := 62) cx k_cX3 0 rfl 2 (by decide) q1072 (Or.inl rfl) rfl dX3_tell_59 rfl ?_
        refine g_aload_n (q := 63) cx dX3_tell_62 rfl rfl ?_
        refine g_get (q := 66) cx k_cX3 0 rfl 3 (by decide) q1073 (Or.inl rfl) rfl dX3_tell_63 rfl ?_
        refine g_iload_n (q := 67) cx dX3_tell_66 rfl rfl ?_
        refine g_iastZ (q := 68) (ws2 := [(mo, .inr (2, [.int (iN 0), .ref am, .ref ae, .int (iN many), .ref ap, .ref ab, .ref aw, .int (iN coins), .ref ac, .ref an, .ref a0, .ref a1, .ref a2])), (am, .inl (T.2.1 0, 7, .inl (zA (va_up masses many.toNat mass)))), (ae, .inl (T.2.1 0, 7, .inl (zA (va_up errors many.toNat err))))]) cx hrw 2 (by decide) rfl vc.1 rfl dX3_tell_67 rfl ?_
        have vc := vc.2
        refine g_aload_n (q := 69) cx dX3_tell_68 rfl rfl ?_
        refine g_dup (q := 70) cx dX3_tell_69 rfl rfl ?_
        refine g_get (q := 73) cx k_cX3 0 rfl 3 (by decide) q1073 (Or.inl rfl) rfl dX3_tell_70 rfl ?_
        refine g_iconst (q := 74) (v := iN 1) cx dX3_tell_73 rfl rfl ?_
        refine g_iaddZ (q := 75) cx dX3_tell_74 rfl ?_
        refine g_put (q := 78) (ws2 := [(mo, .inr (2, [.int (iN 0), .ref am, .ref ae, .int (iN (many + 1)), .ref ap, .ref ab, .ref aw, .int (iN coins), .ref ac, .ref an, .ref a0, .ref a1, .ref a2])), (am, .inl (T.2.1 0, 7, .inl (zA (va_up masses many.toNat mass)))), (ae, .inl (T.2.1 0, 7, .inl (zA (va_up errors many.toNat err))))]) cx hrw k_cX3 0 rfl 3 (by decide) q1073 (Or.inl rfl) rfl rfl rfl (Nat.le_of_ble_eq_true rfl) rfl dX3_tell_75 rfl ?_
        refine g_aload_n (q := 79) cx dX3_tell_78 rfl rfl ?_
        refine g_get (q := 82) cx k_cX3 0 rfl 3 (by decide) q1073 (Or.inl rfl) rfl dX3_tell_79 rfl ?_
        refine g_iconst (q := 83) (v := iN 1) cx dX3_tell_82 rfl rfl ?_
        refine g_isubZ (q := 84) cx dX3_tell_83 rfl ?_
        exact g_iretW cx hr rfl ⟨((many + 1) - 1), 0, (many + 1), (va_up masses many.toNat mass), (va_up errors many.toNat err), rfl, rfl, vc⟩ (by first | exact Nat.le_of_ble_eq_true rfl | omega) (by first | exact Nat.le_of_ble_eq_true rfl | omega) dX3_tell_84
      · have vc := vc.2.2 h_10
        refine g_iconst (q := 36) (v := iN 2) cx dX3_tell_35 rfl rfl ?_
        refine g_goto (q := 40) cx dX3_tell_36 (by decide) ?_
        refine g_cVw (q := 43) (b := mo) (As := [.int (iN 2)]) (wr := [(am, .inl (T.2.1 0, 7, .inl (zA masses))), (ae, .inl (T.2.1 0, 7, .inl (zA errors)))]) (st := []) cx hST hrw (k_X3_goesWell l hlt T mo am ae ap ab aw ac an a0 a1 a2 th many coins 2 (by decide)) q1122 s_X3_goesWell rfl 0 rfl rfl (g_perm [1, 2, 0] rfl rfl) (g_rmB rfl) (Nat.le_of_ble_eq_true rfl) dX3_tell_40 rfl (fun v_ wn_ hv_ => ?_)
        obtain ⟨b_14, th2_15, rfl, rfl, e_16⟩ := hv_
        obtain ⟨rfl, rfl⟩ := e_16
        refine g_wp (ws2 := [(mo, .inr (2, [.int (iN 2), .ref am, .ref ae, .int (iN many), .ref ap, .ref ab, .ref aw, .int (iN coins), .ref ac, .ref an, .ref a0, .ref a1, .ref a2])), (am, .inl (T.2.1 0, 7, .inl (zA masses))), (ae, .inl (T.2.1 0, 7, .inl (zA errors)))]) (g_perm [2, 0, 1] rfl rfl) ?_
        refine g_cs (cells2 := 0) (slots2 := 0) (ws2 := [(mo, .inr (2, [.int (iN 2), .ref am, .ref ae, .int (iN many), .ref ap, .ref ab, .ref aw, .int (iN coins), .ref ac, .ref an, .ref a0, .ref a1, .ref a2])), (am, .inl (T.2.1 0, 7, .inl (zA masses))), (ae, .inl (T.2.1 0, 7, .inl (zA errors)))]) rfl rfl rfl ?_
        refine g_st (st2 := [.int (bI false)]) rfl ?_
        refine g_if_ne (q := 46) (tg := 48) cx dX3_tell_43 (by decide) rfl (fun h => absurd h (by decide)) (fun _ => ?_)
        refine g_iconst (q := 47) (v := iN 0) cx dX3_tell_46 rfl rfl ?_
        exact g_iretW cx hr rfl ⟨0, 2, many, masses, errors, rfl, rfl, vc⟩ (by first | exact Nat.le_of_ble_eq_true rfl | omega) (by first | exact Nat.le_of_ble_eq_true rfl | omega) dX3_tell_47
    · have vc := vc.2 (bI_0.mp h_9)
      refine g_iconst (q := 23) (v := iN 1) cx dX3_tell_22 rfl rfl ?_
      refine g_goto (q := 40) cx dX3_tell_23 (by decide) ?_
      refine g_cVw (q := 43) (b := mo) (As := [.int (iN 1)]) (wr := [(am, .inl (T.2.1 0, 7, .inl (zA masses))), (ae, .inl (T.2.1 0, 7, .inl (zA errors)))]) (st := []) cx hST hrw (k_X3_goesWell l hlt T mo am ae ap ab aw ac an a0 a1 a2 th many coins 1 (by decide)) q1122 s_X3_goesWell rfl 0 rfl rfl (g_perm [1, 2, 0] rfl rfl) (g_rmB rfl) (Nat.le_of_ble_eq_true rfl) dX3_tell_40 rfl (fun v_ wn_ hv_ => ?_)
      obtain ⟨b_17, th2_18, rfl, rfl, e_19⟩ := hv_
      obtain ⟨rfl, rfl⟩ := e_19
      refine g_wp (ws2 := [(mo, .inr (2, [.int (iN 1), .ref am, .ref ae, .int (iN many), .ref ap, .ref ab, .ref aw, .int (iN coins), .ref ac, .ref an, .ref a0, .ref a1, .ref a2])), (am, .inl (T.2.1 0, 7, .inl (zA masses))), (ae, .inl (T.2.1 0, 7, .inl (zA errors)))]) (g_perm [2, 0, 1] rfl rfl) ?_
      refine g_cs (cells2 := 0) (slots2 := 0) (ws2 := [(mo, .inr (2, [.int (iN 1), .ref am, .ref ae, .int (iN many), .ref ap, .ref ab, .ref aw, .int (iN coins), .ref ac, .ref an, .ref a0, .ref a1, .ref a2])), (am, .inl (T.2.1 0, 7, .inl (zA masses))), (ae, .inl (T.2.1 0, 7, .inl (zA errors)))]) rfl rfl rfl ?_
      refine g_st (st2 := [.int (bI false)]) rfl ?_
      refine g_if_ne (q := 46) (tg := 48) cx dX3_tell_43 (by decide) rfl (fun h => absurd h (by decide)) (fun _ => ?_)
      refine g_iconst (q := 47) (v := iN 0) cx dX3_tell_46 rfl rfl ?_
      exact g_iretW cx hr rfl ⟨0, 1, many, masses, errors, rfl, rfl, vc⟩ (by first | exact Nat.le_of_ble_eq_true rfl | omega) (by first | exact Nat.le_of_ble_eq_true rfl | omega) dX3_tell_47

theorem k_X3_tell (l : Launch) (hlt : l.stackTraces = false) (T : GT) (mo : Nat) (am : Nat) (ae : Nat) (ap : Nat) (ab : Nat) (aw : Nat) (ac : Nat) (an : Nat) (a0 : Nat) (a1 : Nat) (a2 : Nat) (th : Int) (many : Int) (coins : Int) (masses : Nat → Int) (errors : Nat → Int) (mass : Int) (err : Int) (n : Nat) (hp0 : many = n) (hp1 : n ≤ 7) (hp2 : -2147483648 ≤ mass ∧ mass < 2147483648) (hp3 : -2147483648 ≤ err ∧ err < 2147483648) : MW l T yX3_tell cX3_tell 3 (some .int) ({ frames := 1, cells := 0, slots := 0, locals := 22 }) [.ref mo, .int (iN mass), .int (iN err)] [(mo, .inr (2, [.int (iN th), .ref am, .ref ae, .int (iN many), .ref ap, .ref ab, .ref aw, .int (iN coins), .ref ac, .ref an, .ref a0, .ref a1, .ref a2])), (am, .inl (T.2.1 0, 7, .inl (zA masses))), (ae, .inl (T.2.1 0, 7, .inl (zA errors)))] (fun v_ wn_ => ∃ (r : Int), ∃ (th2 : Int), ∃ (many2 : Int), ∃ (masses2 : Nat → Int), ∃ (errors2 : Nat → Int), v_ = some (.int (iN r)) ∧ wn_ = [(mo, .inr (2, [.int (iN th2), .ref am, .ref ae, .int (iN many2), .ref ap, .ref ab, .ref aw, .int (iN coins), .ref ac, .ref an, .ref a0, .ref a1, .ref a2])), (am, .inl (T.2.1 0, 7, .inl (zA masses2))), (ae, .inl (T.2.1 0, 7, .inl (zA errors2)))] ∧ r = (if (1 ≤ mass ∧ mass ≤ 500) ∧ (0 ≤ err ∧ err ≤ 9) ∧ n < 7 then (n : Int) else 0) ∧ th2 = (if (1 ≤ mass ∧ mass ≤ 500) ∧ (0 ≤ err ∧ err ≤ 9) then (if n < 7 then 0 else 2) else 1) ∧ many2 = (if (1 ≤ mass ∧ mass ≤ 500) ∧ (0 ≤ err ∧ err ≤ 9) ∧ n < 7 then (n : Int) + 1 else n) ∧ masses2 = (if (1 ≤ mass ∧ mass ≤ 500) ∧ (0 ≤ err ∧ err ≤ 9) ∧ n < 7 then va_up masses n mass else masses) ∧ errors2 = (if (1 ≤ mass ∧ mass ≤ 500) ∧ (0 ≤ err ∧ err ≤ 9) ∧ n < 7 then va_up errors n err else errors)) 0 0 := by
  refine w_X3_tell l hlt T mo am ae ap ab aw ac an a0 a1 a2 th many coins masses errors mass err n _ ?_
  subst hp0
  repeat' (first | (intro h_) | apply And.intro)
  all_goals (try simp only [Bool.and_eq_true, Bool.and_eq_false_iff, decide_eq_true_eq, decide_eq_false_iff_not] at *)
  all_goals (first | omega | ((repeat' split) <;> first | rfl | omega | (exfalso; omega)))

set_option maxRecDepth 100000 in
set_option maxHeartbeats 4000000 in
theorem w_X3_massOf (l : Launch) (hlt : l.stackTraces = false) (T : GT) (mo : Nat) (am : Nat) (ae : Nat) (ap : Nat) (ab : Nat) (aw : Nat) (ac : Nat) (an : Nat) (a0 : Nat) (a1 : Nat) (a2 : Nat) (th : Int) (many : Int) (coins : Int) (masses : Nat → Int) (weight : Int) (n : Nat)  (post : Int → Int → Prop) (v0_ : (-2147483648 ≤ weight ∧ weight < 2147483648) ∧ ((0 ≤ many ∧ many ≤ 7) ∧ (((decide (0 ≤ weight) && decide (weight ≤ many - 1)) = false → (post 0 1)) ∧ ((decide (0 ≤ weight) && decide (weight ≤ many - 1)) = true → ((0 ≤ weight ∧ weight < 7) ∧ (post (masses weight.toNat) 0))))))  : MW l T yX3_massOf cX3_massOf 2 (some .int) ({ frames := 2, cells := 0, slots := 0, locals := 43 }) [.ref mo, .int (iN weight)] [(mo, .inr (2, [.int (iN th), .ref am, .ref ae, .int (iN many), .ref ap, .ref ab, .ref aw, .int (iN coins), .ref ac, .ref an, .ref a0, .ref a1, .ref a2])), (am, .inl (T.2.1 0, 7, .inl (zA masses)))] (fun v_ wn_ => ∃ (r : Int), ∃ (th2 : Int), v_ = some (.int (iN r)) ∧ wn_ = [(mo, .inr (2, [.int (iN th2), .ref am, .ref ae, .int (iN many), .ref ap, .ref ab, .ref aw, .int (iN coins), .ref ac, .ref an, .ref a0, .ref a1, .ref a2])), (am, .inl (T.2.1 0, 7, .inl (zA masses)))] ∧ post r th2) 0 0 := by
  refine MW.start hlt (by decide) (lv0 := [some (.ref mo), some (.int (iN weight))]) rfl (Nat.le_of_ble_eq_true rfl) rfl ?_
  intro p e R s m args below meth c A cx hr hnm hST hrw
  have vc := v0_
  refine g_aload_n (q := 1) cx dX3_massOf_0 rfl rfl ?_
  refine g_aload_n (q := 2) cx dX3_massOf_1 rfl rfl ?_
  refine g_iload_n (q := 3) cx dX3_massOf_2 rfl rfl ?_
  refine g_cVr (q := 6) (b := mo) (As := [.int (iN weight)]) (wr := [(am, .inl (T.2.1 0, 7, .inl (zA masses)))]) (st := [.ref mo]) cx hST (k_X3_isWeight l hlt T mo am ae ap ab aw ac an a0 a1 a2 th many coins weight (vc.1) (vc.2.1)) q1130 s_X3_isWeight rfl 0 rfl rfl (g_perm [1, 0] rfl rfl) (g_rmB rfl) (Nat.le_of_ble_eq_true rfl) dX3_massOf_3 rfl (fun v_ hv_ => ?_)
  have vc := vc.2
  have vc := vc.2
  obtain ⟨b_1, rfl, e_2⟩ := hv_
  subst e_2
  refine g_st (st2 := [.int (bI (decide (0 ≤ weight) && decide (weight ≤ many - 1))), .ref mo]) rfl ?_
  refine g_if_eq (q := 9) (tg := 13) cx dX3_massOf_6 (by decide) rfl (fun h_3 => ?_) (fun h_3 => ?_)
  · have vc := vc.1 (bI_0.mp h_3)
    refine g_iconst (q := 14) (v := iN 1) cx dX3_massOf_13 rfl rfl ?_
    refine g_cVw (q := 17) (b := mo) (As := [.int (iN 1)]) (wr := [(am, .inl (T.2.1 0, 7, .inl (zA masses)))]) (st := []) cx hST hrw (k_X3_goesWell l hlt T mo am ae ap ab aw ac an a0 a1 a2 th many coins 1 (by decide)) q1122 s_X3_goesWell rfl 0 rfl rfl (g_perm [1, 0] rfl rfl) (g_rmB rfl) (Nat.le_of_ble_eq_true rfl) dX3_massOf_14 rfl (fun v_ wn_ hv_ => ?_)
    obtain ⟨b_4, th2_5, rfl, rfl, e_6⟩ := hv_
    obtain ⟨rfl, rfl⟩ := e_6
    refine g_wp (ws2 := [(mo, .inr (2, [.int (iN 1), .ref am, .ref ae, .int (iN many), .ref ap, .ref ab, .ref aw, .int (iN coins), .ref ac, .ref an, .ref a0, .ref a1, .ref a2])), (am, .inl (T.2.1 0, 7, .inl (zA masses)))]) (g_perm [1, 0] rfl rfl) ?_
    refine g_cs (cells2 := 0) (slots2 := 0) (ws2 := [(mo, .inr (2, [.int (iN 1), .ref am, .ref ae, .int (iN many), .ref ap, .ref ab, .ref aw, .int (iN coins), .ref ac, .ref an, .ref a0, .ref a1, .ref a2])), (am, .inl (T.2.1 0, 7, .inl (zA masses)))]) rfl rfl rfl ?_
    refine g_st (st2 := [.int (bI false)]) rfl ?_
    refine g_if_eq (q := 20) (tg := 29) cx dX3_massOf_17 (by decide) rfl (fun _ => ?_) (fun h => absurd h (by decide))
    refine g_iconst (q := 30) (v := iN 0) cx dX3_massOf_29 rfl rfl ?_
    exact g_iretW cx hr rfl ⟨0, 1, rfl, rfl, vc⟩ (by first | exact Nat.le_of_ble_eq_true rfl | omega) (by first | exact Nat.le_of_ble_eq_true rfl | omega) dX3_massOf_30
  · have vc := vc.2 (bI_n0.mp h_3)
    refine g_iconst (q := 10) (v := iN 0) cx dX3_massOf_9 rfl rfl ?_
    refine g_goto (q := 14) cx dX3_massOf_10 (by decide) ?_
    refine g_cVw (q := 17) (b := mo) (As := [.int (iN 0)]) (wr := [(am, .inl (T.2.1 0, 7, .inl (zA masses)))]) (st := []) cx hST hrw (k_X3_goesWell l hlt T mo am ae ap ab aw ac an a0 a1 a2 th many coins 0 (by decide)) q1122 s_X3_goesWell rfl 0 rfl rfl (g_perm [1, 0] rfl rfl) (g_rmB rfl) (Nat.le_of_ble_eq_true rfl) dX3_massOf_14 rfl (fun v_ wn_ hv_ => ?_)
    obtain ⟨b_7, th2_8, rfl, rfl, e_9⟩ := hv_
    obtain ⟨rfl, rfl⟩ := e_9
    refine g_wp (ws2 := [(mo, .inr (2, [.int (iN 0), .ref am, .ref ae, .int (iN many), .ref ap, .ref ab, .ref aw, .int (iN coins), .ref ac, .ref an, .ref a0, .ref a1, .ref a2])), (am, .inl (T.2.1 0, 7, .inl (zA masses)))]) (g_perm [1, 0] rfl rfl) ?_
    refine g_cs (cells2 := 0) (slots2 := 0) (ws2 := [(mo, .inr (2, [.int (iN 0), .ref am, .ref ae, .int (iN many), .ref ap, .ref ab, .ref aw, .int (iN coins), .ref ac, .ref an, .ref a0, .ref a1, .ref a2])), (am, .inl (T.2.1 0, 7, .inl (zA masses)))]) rfl rfl rfl ?_
    refine g_st (st2 := [.int (bI true)]) rfl ?_
    refine g_if_eq (q := 20) (tg := 29) cx dX3_massOf_17 (by decide) rfl (fun h => absurd h (by decide)) (fun _ => ?_)
    refine g_aload_n (q := 21) cx dX3_massOf_20 rfl rfl ?_
    refine g_get (q := 24) cx k_cX3 0 rfl 1 (by decide) q1071 (Or.inl rfl) rfl dX3_massOf_21 rfl ?_
    refine g_iload_n (q := 25) cx dX3_massOf_24 rfl rfl ?_
    refine g_ialdZ (q := 26) cx 1 (by decide) rfl vc.1 dX3_massOf_25 rfl ?_
    have vc := vc.2
    refine g_goto (q := 30) cx dX3_massOf_26 (by decide) ?_
    exact g_iretW cx hr rfl ⟨(masses weight.toNat), 0, rfl, rfl, vc⟩ (by first | exact Nat.le_of_ble_eq_true rfl | omega) (by first | exact Nat.le_of_ble_eq_true rfl | omega) dX3_massOf_30

theorem k_X3_massOf (l : Launch) (hlt : l.stackTraces = false) (T : GT) (mo : Nat) (am : Nat) (ae : Nat) (ap : Nat) (ab : Nat) (aw : Nat) (ac : Nat) (an : Nat) (a0 : Nat) (a1 : Nat) (a2 : Nat) (th : Int) (many : Int) (coins : Int) (masses : Nat → Int) (weight : Int) (n : Nat) (hp0 : many = n) (hp1 : n ≤ 7) (hp2 : -2147483648 ≤ weight ∧ weight < 2147483648) : MW l T yX3_massOf cX3_massOf 2 (some .int) ({ frames := 2, cells := 0, slots := 0, locals := 43 }) [.ref mo, .int (iN weight)] [(mo, .inr (2, [.int (iN th), .ref am, .ref ae, .int (iN many), .ref ap, .ref ab, .ref aw, .int (iN coins), .ref ac, .ref an, .ref a0, .ref a1, .ref a2])), (am, .inl (T.2.1 0, 7, .inl (zA masses)))] (fun v_ wn_ => ∃ (r : Int), ∃ (th2 : Int), v_ = some (.int (iN r)) ∧ wn_ = [(mo, .inr (2, [.int (iN th2), .ref am, .ref ae, .int (iN many), .ref ap, .ref ab, .ref aw, .int (iN coins), .ref ac, .ref an, .ref a0, .ref a1, .ref a2])), (am, .inl (T.2.1 0, 7, .inl (zA masses)))] ∧ r = (if 0 ≤ weight ∧ weight < n then masses weight.toNat else 0) ∧ th2 = (if 0 ≤ weight ∧ weight < n then 0 else 1)) 0 0 := by
  refine w_X3_massOf l hlt T mo am ae ap ab aw ac an a0 a1 a2 th many coins masses weight n _ ?_
  subst hp0
  repeat' (first | (intro h_) | apply And.intro)
  all_goals (try simp only [Bool.and_eq_true, Bool.and_eq_false_iff, decide_eq_true_eq, decide_eq_false_iff_not] at *)
  all_goals (first | omega | ((repeat' split) <;> first | rfl | omega | (exfalso; omega)))

theorem k_X3_sizeOf_p (l : Launch) (hlt : l.stackTraces = false) (T : GT) (mo : Nat) (am : Nat) (ae : Nat) (ap : Nat) (ab : Nat) (aw : Nat) (ac : Nat) (an : Nat) (a0 : Nat) (a1 : Nat) (a2 : Nat) (th : Int) (many : Int) (coins : Int) (n : Nat) (q : Nat) (old : Nat → Int) (hp0 : many = n) (hp1 : n ≤ 7) : MR l T yX3_sizeOf cX3_sizeOf 3 (some .int) ({ frames := 0, cells := 0, slots := 0, locals := 0 }) [.ref mo] [(mo, .inr (2, [.int (iN th), .ref am, .ref ae, .int (iN many), .ref ap, .ref ab, .ref aw, .int (iN coins), .ref ac, .ref an, .ref a0, .ref a1, .ref a2])), (ap, .inl (T.2.1 0, 7, .inl (zA (plac n q old))))] (fun v_ => ∃ (r : Int), v_ = some (.int (iN r)) ∧ r = ((psize n q : Nat) : Int)) := by
  have h := k_X3_sizeOf l hlt T mo am ae ap ab aw ac an a0 a1 a2 th many coins (plac n q old) n hp0 hp1 plac_in
  rw [psize_plac] at h
  exact h

theorem k_X3_leftOf_p (l : Launch) (hlt : l.stackTraces = false) (T : GT) (mo : Nat) (am : Nat) (ae : Nat) (ap : Nat) (ab : Nat) (aw : Nat) (ac : Nat) (an : Nat) (a0 : Nat) (a1 : Nat) (a2 : Nat) (th : Int) (many : Int) (coins : Int) (n : Nat) (q : Nat) (old : Nat → Int) (hp0 : many = n) (hp1 : n ≤ 7) : MR l T yX3_leftOf cX3_leftOf 3 (some .int) ({ frames := 0, cells := 0, slots := 0, locals := 0 }) [.ref mo] [(mo, .inr (2, [.int (iN th), .ref am, .ref ae, .int (iN many), .ref ap, .ref ab, .ref aw, .int (iN coins), .ref ac, .ref an, .ref a0, .ref a1, .ref a2])), (ap, .inl (T.2.1 0, 7, .inl (zA (plac n q old))))] (fun v_ => ∃ (r : Int), v_ = some (.int (iN r)) ∧ r = ((pleft n q : Nat) : Int)) := by
  have h := k_X3_leftOf l hlt T mo am ae ap ab aw ac an a0 a1 a2 th many coins (plac n q old) n hp0 hp1 plac_in
  rw [pleft_plac] at h
  exact h

theorem k_X3_errorOf_p (l : Launch) (hlt : l.stackTraces = false) (T : GT) (mo : Nat) (am : Nat) (ae : Nat) (ap : Nat) (ab : Nat) (aw : Nat) (ac : Nat) (an : Nat) (a0 : Nat) (a1 : Nat) (a2 : Nat) (th : Int) (many : Int) (coins : Int) (errors : Nat → Int) (n : Nat) (q : Nat) (old : Nat → Int) (hp0 : many = n) (hp1 : n ≤ 7) : MR l T yX3_errorOf cX3_errorOf 3 (some .int) ({ frames := 0, cells := 0, slots := 0, locals := 0 }) [.ref mo] [(mo, .inr (2, [.int (iN th), .ref am, .ref ae, .int (iN many), .ref ap, .ref ab, .ref aw, .int (iN coins), .ref ac, .ref an, .ref a0, .ref a1, .ref a2])), (ae, .inl (T.2.1 0, 7, .inl (zA errors))), (ap, .inl (T.2.1 0, 7, .inl (zA (plac n q old))))] (fun v_ => ∃ (r : Int), v_ = some (.int (iN r)) ∧ r = (perr errors n q)) := by
  have h := k_X3_errorOf l hlt T mo am ae ap ab aw ac an a0 a1 a2 th many coins errors (plac n q old) n hp0 hp1 plac_in
  rw [perr_plac] at h
  exact h

set_option maxRecDepth 100000 in
set_option maxHeartbeats 4000000 in
theorem w_X3_count (l : Launch) (hlt : l.stackTraces = false) (T : GT) (mo : Nat) (am : Nat) (ae : Nat) (ap : Nat) (ab : Nat) (aw : Nat) (ac : Nat) (an : Nat) (a0 : Nat) (a1 : Nat) (a2 : Nat) (th : Int) (many : Int) (coins : Int) (masses : Nat → Int) (placing : Nat → Int) (mass : Int) (n : Nat) (I4 : Int → Int → (Nat → Int) → Prop) (M4 : Int → Int → (Nat → Int) → g_mu) (post : Int → (Nat → Int) → Prop) (v0_ : I4 0 0 placing) (v4 : ∀ (found : Int) (number : Int) (pl : Nat → Int), I4 found number pl → (many = n) ∧ ((n ≤ 7) ∧ ((-2147483648 ≤ number ∧ number < 2147483648) ∧ ((-2147483648 ≤ ((3 ^ n : Nat) : Int) ∧ ((3 ^ n : Nat) : Int) < 2147483648) ∧ ((((3 ^ n : Nat) : Int) ≤ number → (post found pl)) ∧ (number < ((3 ^ n : Nat) : Int) → ((many = n) ∧ ((n ≤ 7) ∧ ((msOK n masses) ∧ ((0 ≤ number ∧ number < 2147483648) ∧ ((-2147483648 ≤ (psum masses n number.toNat n) ∧ (psum masses n number.toNat n) < 2147483648) ∧ ((-2147483648 ≤ mass ∧ mass < 2147483648) ∧ ((¬ (psum masses n number.toNat n) = mass → (I4 (found + 0) (number + 1) (plac n number.toNat pl) ∧ g_lt (M4 (found + 0) (number + 1) (plac n number.toNat pl)) (M4 found number pl))) ∧ ((psum masses n number.toNat n) = mass → (I4 (found + 1) (number + 1) (plac n number.toNat pl) ∧ g_lt (M4 (found + 1) (number + 1) (plac n number.toNat pl)) (M4 found number pl)))))))))))))))) : MW l T yX3_count cX3_count 4 (some .int) ({ frames := 1, cells := 0, slots := 0, locals := 24 }) [.ref mo, .int (iN mass)] [(mo, .inr (2, [.int (iN th), .ref am, .ref ae, .int (iN many), .ref ap, .ref ab, .ref aw, .int (iN coins), .ref ac, .ref an, .ref a0, .ref a1, .ref a2])), (am, .inl (T.2.1 0, 7, .inl (zA masses))), (ap, .inl (T.2.1 0, 7, .inl (zA placing)))] (fun v_ wn_ => ∃ (r : Int), ∃ (placing2 : Nat → Int), v_ = some (.int (iN r)) ∧ wn_ = [(mo, .inr (2, [.int (iN th), .ref am, .ref ae, .int (iN many), .ref ap, .ref ab, .ref aw, .int (iN coins), .ref ac, .ref an, .ref a0, .ref a1, .ref a2])), (am, .inl (T.2.1 0, 7, .inl (zA masses))), (ap, .inl (T.2.1 0, 7, .inl (zA placing2)))] ∧ post r placing2) 0 0 := by
  refine MW.start hlt (by decide) (lv0 := [some (.ref mo), some (.int (iN mass)), none, none]) rfl (Nat.le_of_ble_eq_true rfl) rfl ?_
  intro p e R s m args below meth c A cx hr hnm hST hrw
  have key : ∀ μ : g_mu, (∀ (found : Int) (number : Int) (pl : Nat → Int), I4 found number pl → M4 found number pl = μ → G p l e R s m args below meth c 4 T A A (MQ below (g_Q T (fun v_ wn_ => ∃ (r : Int), ∃ (placing2 : Nat → Int), v_ = some (.int (iN r)) ∧ wn_ = [(mo, .inr (2, [.int (iN th), .ref am, .ref ae, .int (iN many), .ref ap, .ref ab, .ref aw, .int (iN coins), .ref ac, .ref an, .ref a0, .ref a1, .ref a2])), (am, .inl (T.2.1 0, 7, .inl (zA masses))), (ap, .inl (T.2.1 0, 7, .inl (zA placing2)))] ∧ post r placing2) A) args s 0 0 A) 0 0 [(mo, .inr (2, [.int (iN th), .ref am, .ref ae, .int (iN many), .ref ap, .ref ab, .ref aw, .int (iN coins), .ref ac, .ref an, .ref a0, .ref a1, .ref a2])), (am, .inl (T.2.1 0, 7, .inl (zA masses))), (ap, .inl (T.2.1 0, 7, .inl (zA pl)))] [some (.ref mo), some (.int (iN mass)), some (.int (iN found)), some (.int (iN number))] 4 []) := by
    refine g_ind (fun μ ih => ?_)
    · intro found number pl hI hM
      subst hM
      have vc := v4 found number pl hI
      refine g_iload_n (q := 5) cx dX3_count_4 rfl rfl ?_
      refine g_aload_n (q := 6) cx dX3_count_5 rfl rfl ?_
      refine g_cVr (q := 9) (b := mo) (As := []) (wr := [(am, .inl (T.2.1 0, 7, .inl (zA masses))), (ap, .inl (T.2.1 0, 7, .inl (zA pl)))]) (st := [.int (iN number)]) cx hST (k_X3_placings l hlt T mo am ae ap ab aw ac an a0 a1 a2 th many coins n (vc.1) (vc.2.1)) q1153 s_X3_placings rfl 0 rfl rfl (g_perm [1, 2, 0] rfl rfl) (g_rmB rfl) (Nat.le_of_ble_eq_true rfl) dX3_count_6 rfl (fun v_ hv_ => ?_)
      have vc := vc.2
      have vc := vc.2
      obtain ⟨r_1, rfl, e_2⟩ := hv_
      subst e_2
      refine g_st (st2 := [.int (iN ((3 ^ n : Nat) : Int)), .int (iN number)]) rfl ?_
      refine g_icmp_geZ (q := 12) (tg := 35) cx vc.1 vc.2.1 dX3_count_9 (by decide) rfl (fun h_3 => ?_) (fun h_3 => ?_)
      · have vc := vc.2.2.1 h_3
        refine g_iload_n (q := 36) cx dX3_count_35 rfl rfl ?_
        exact g_iretW cx hr rfl ⟨found, pl, rfl, rfl, vc⟩ (by first | exact Nat.le_of_ble_eq_true rfl | omega) (by first | exact Nat.le_of_ble_eq_true rfl | omega) dX3_count_36
      · have vc := vc.2.2.2 h_3
        refine g_iload_n (q := 13) cx dX3_count_12 rfl rfl ?_
        refine g_aload_n (q := 14) cx dX3_count_13 rfl rfl ?_
        refine g_iload_n (q := 15) cx dX3_count_14 rfl rfl ?_
        refine g_cVw (q := 18) (b := mo) (As := [.int (iN number)]) (wr := []) (st := [.int (iN found)]) cx hST hrw (k_X3_place l hlt T mo am ae ap ab aw ac an a0 a1 a2 th many coins masses pl number n (vc.1) (vc.2.1) (vc.2.2.1) (vc.2.2.2.1)) q1157 s_X3_place rfl 0 rfl rfl g_perm1 (g_rmB rfl) (Nat.le_of_ble_eq_true rfl) dX3_count_15 rfl (fun v_ wn_ hv_ => ?_)
        have vc := vc.2
        have vc := vc.2
        have vc := vc.2
        have vc := vc.2
        obtain ⟨r_4, placing2_5, rfl, rfl, e_6⟩ := hv_
        obtain ⟨rfl, rfl⟩ := e_6
        refine g_cs (cells2 := 0) (slots2 := 0) (ws2 := [(mo, .inr (2, [.int (iN th), .ref am, .ref ae, .int (iN many), .ref ap, .ref ab, .ref aw, .int (iN coins), .ref ac, .ref an, .ref a0, .ref a1, .ref a2])), (am, .inl (T.2.1 0, 7, .inl (zA masses))), (ap, .inl (T.2.1 0, 7, .inl (zA (plac n number.toNat pl))))]) rfl rfl rfl ?_
        refine g_st (st2 := [.int (iN (psum masses n number.toNat n)), .int (iN found)]) rfl ?_
        refine g_iload_n (q := 19) cx dX3_count_18 rfl rfl ?_
        refine g_icmp_neZ (q := 22) (tg := 26) cx vc.1 vc.2.1 dX3_count_19 (by decide) rfl (fun h_7 => ?_) (fun h_7 => ?_)
        · have vc := vc.2.2.1 h_7
          refine g_iconst (q := 27) (v := iN 0) cx dX3_count_26 rfl rfl ?_
          refine g_iaddZ (q := 28) cx dX3_count_27 rfl ?_
          refine g_istore_n (q := 29) (lv2 := [some (.ref mo), some (.int (iN mass)), some (.int (iN (found + 0))), some (.int (iN number))]) cx dX3_count_28 rfl (by decide) rfl rfl ?_
          refine g_iinc (q := 32) (v := iN (number + 1)) (lv2 := [some (.ref mo), some (.int (iN mass)), some (.int (iN (found + 0))), some (.int (iN (number + 1)))]) cx dX3_count_29 rfl (iN_add _ _) (by decide) rfl rfl ?_
          refine g_goto (q := 4) cx dX3_count_32 (by decide) ?_
          exact (ih _ vc.2) (found + 0) (number + 1) (plac n number.toNat pl) vc.1 rfl
        · have vc := vc.2.2.2 h_7
          refine g_iconst (q := 23) (v := iN 1) cx dX3_count_22 rfl rfl ?_
          refine g_goto (q := 27) cx dX3_count_23 (by decide) ?_
          refine g_iaddZ (q := 28) cx dX3_count_27 rfl ?_
          refine g_istore_n (q := 29) (lv2 := [some (.ref mo), some (.int (iN mass)), some (.int (iN (found + 1))), some (.int (iN number))]) cx dX3_count_28 rfl (by decide) rfl rfl ?_
          refine g_iinc (q := 32) (v := iN (number + 1)) (lv2 := [some (.ref mo), some (.int (iN mass)), some (.int (iN (found + 1))), some (.int (iN (number + 1)))]) cx dX3_count_29 rfl (iN_add _ _) (by decide) rfl rfl ?_
          refine g_goto (q := 4) cx dX3_count_32 (by decide) ?_
          exact (ih _ vc.2) (found + 1) (number + 1) (plac n number.toNat pl) vc.1 rfl
  have vc := v0_
  refine g_iconst (q := 1) (v := iN 0) cx dX3_count_0 rfl rfl ?_
  refine g_istore_n (q := 2) (lv2 := [some (.ref mo), some (.int (iN mass)), some (.int (iN 0)), none]) cx dX3_count_1 rfl (by decide) rfl rfl ?_
  refine g_iconst (q := 3) (v := iN 0) cx dX3_count_2 rfl rfl ?_
  refine g_istore_n (q := 4) (lv2 := [some (.ref mo), some (.int (iN mass)), some (.int (iN 0)), some (.int (iN 0))]) cx dX3_count_3 rfl (by decide) rfl rfl ?_
  exact (key _) 0 0 placing vc rfl

theorem k_X3_count (l : Launch) (hlt : l.stackTraces = false) (T : GT) (mo : Nat) (am : Nat) (ae : Nat) (ap : Nat) (ab : Nat) (aw : Nat) (ac : Nat) (an : Nat) (a0 : Nat) (a1 : Nat) (a2 : Nat) (th : Int) (many : Int) (coins : Int) (masses : Nat → Int) (placing : Nat → Int) (mass : Int) (n : Nat) (hp0 : many = n) (hp1 : n ≤ 7) (hp2 : msOK n masses) (hp3 : -2147483648 ≤ mass ∧ mass < 2147483648) : MW l T yX3_count cX3_count 4 (some .int) ({ frames := 1, cells := 0, slots := 0, locals := 24 }) [.ref mo, .int (iN mass)] [(mo, .inr (2, [.int (iN th), .ref am, .ref ae, .int (iN many), .ref ap, .ref ab, .ref aw, .int (iN coins), .ref ac, .ref an, .ref a0, .ref a1, .ref a2])), (am, .inl (T.2.1 0, 7, .inl (zA masses))), (ap, .inl (T.2.1 0, 7, .inl (zA placing)))] (fun v_ wn_ => ∃ (r : Int), ∃ (placing2 : Nat → Int), v_ = some (.int (iN r)) ∧ wn_ = [(mo, .inr (2, [.int (iN th), .ref am, .ref ae, .int (iN many), .ref ap, .ref ab, .ref aw, .int (iN coins), .ref ac, .ref an, .ref a0, .ref a1, .ref a2])), (am, .inl (T.2.1 0, 7, .inl (zA masses))), (ap, .inl (T.2.1 0, 7, .inl (zA placing2)))] ∧ r = ((pcnt masses n mass (3 ^ n) : Nat) : Int)) 0 0 := by
  refine w_X3_count l hlt T mo am ae ap ab aw ac an a0 a1 a2 th many coins masses placing mass n (I4 := fun found number _ => ∃ j : Nat, j ≤ 3 ^ n ∧ number = j ∧ found = (pcnt masses n mass j : Nat)) (M4 := fun _ number _ => (0, 0, 0, (2187 - number).toNat)) _ ?_ ?_
  · exact ⟨0, Nat.zero_le _, rfl, rfl⟩
  · subst hp0
    have h3 := pow3_7 hp1
    rintro found number pl ⟨j, hj, rfl, rfl⟩
    have hc : pcnt masses n mass j ≤ j := cntB_le _ _
    have hs := psum_in (p := j) hp2 hp1
    refine ⟨rfl, hp1, by omega, by omega, fun h => ?_, fun h => ⟨rfl, hp1, hp2, by omega, ?_⟩⟩
    · rw [show 3 ^ n = j by omega]
    · simp only [Int.toNat_natCast]
      refine ⟨by omega, hp3, fun h2 => ?_, fun h2 => ?_⟩
      · exact ⟨⟨j + 1, by omega, rfl, by simp [pcnt, cntB, h2]⟩, g_ltI (by omega)⟩
      · exact ⟨⟨j + 1, by omega, rfl, by simp [pcnt, cntB, h2]⟩, g_ltI (by omega)⟩

set_option maxRecDepth 100000 in
set_option maxHeartbeats 4000000 in
theorem w_X3_canWeigh (l : Launch) (hlt : l.stackTraces = false) (T : GT) (mo : Nat) (am : Nat) (ae : Nat) (ap : Nat) (ab : Nat) (aw : Nat) (ac : Nat) (an : Nat) (a0 : Nat) (a1 : Nat) (a2 : Nat) (th : Int) (many : Int) (coins : Int) (masses : Nat → Int) (placing : Nat → Int) (mass : Int) (n : Nat)  (post : Bool → Int → (Nat → Int) → Prop) (v0_ : (-2147483648 ≤ mass ∧ mass < 2147483648) ∧ (((decide (1 ≤ mass) && decide (mass ≤ 4000)) = false → (post false 1 placing)) ∧ ((decide (1 ≤ mass) && decide (mass ≤ 4000)) = true → ((many = n) ∧ ((n ≤ 7) ∧ ((msOK n masses) ∧ ((-2147483648 ≤ mass ∧ mass < 2147483648) ∧ (∀ (placing2_11 : Nat → Int), (-2147483648 ≤ ((pcnt masses n mass (3 ^ n) : Nat) : Int) ∧ ((pcnt masses n mass (3 ^ n) : Nat) : Int) < 2147483648) ∧ ((((pcnt masses n mass (3 ^ n) : Nat) : Int) ≤ 0 → (post false 0 placing2_11)) ∧ (0 < ((pcnt masses n mass (3 ^ n) : Nat) : Int) → (post true 0 placing2_11)))))))))))  : MW l T yX3_canWeigh cX3_canWeigh 2 (some .boolean) ({ frames := 2, cells := 0, slots := 0, locals := 47 }) [.ref mo, .int (iN mass)] [(mo, .inr (2, [.int (iN th), .ref am, .ref ae, .int (iN many), .ref ap, .ref ab, .ref aw, .int (iN coins), .ref ac, .ref an, .ref a0, .ref a1, .ref a2])), (am, .inl (T.2.1 0, 7, .inl (zA masses))), (ap, .inl (T.2.1 0, 7, .inl (zA placing)))] (fun v_ wn_ => ∃ (b : Bool), ∃ (th2 : Int), ∃ (placing2 : Nat → Int), v_ = some (.int (bI b)) ∧ wn_ = [(mo, .inr (2, [.int (iN th2), .ref am, .ref ae, .int (iN many), .ref ap, .ref ab, .ref aw, .int (iN coins), .ref ac, .ref an, .ref a0, .ref a1, .ref a2])), (am, .inl (T.2.1 0, 7, .inl (zA masses))), (ap, .inl (T.2.1 0, 7, .inl (zA placing2)))] ∧ post b th2 placing2) 0 0 := by
  refine MW.start hlt (by decide) (lv0 := [some (.ref mo), some (.int (iN mass))]) rfl (Nat.le_of_ble_eq_true rfl) rfl ?_
  intro p e R s m args below meth c A cx hr hnm hST hrw
  have vc := v0_
  refine g_aload_n (q := 1) cx dX3_canWeigh_0 rfl rfl ?_
  refine g_iload_n (q := 2) cx dX3_canWeigh_1 rfl rfl ?_
  refine g_cSr (q := 5) (As := [.int (iN mass)]) (wr := [(mo, .inr (2, [.int (iN th), .ref am, .ref ae, .int (iN many), .ref ap, .ref ab, .ref aw, .int (iN coins), .ref ac, .ref an, .ref a0, .ref a1, .ref a2])), (am, .inl (T.2.1 0, 7, .inl (zA masses))), (ap, .inl (T.2.1 0, 7, .inl (zA placing)))]) (st := [.ref mo]) cx hST (k_X3_isMass l hlt T mass (vc.1)) q1146 s_X3_isMass rfl g_perm0 (g_rmB rfl) (Nat.le_of_ble_eq_true rfl) dX3_canWeigh_2 rfl (fun v_ hv_ => ?_)
  have vc := vc.2
  obtain ⟨b_1, rfl, e_2⟩ := hv_
  subst e_2
  refine g_st (st2 := [.int (bI (decide (1 ≤ mass) && decide (mass ≤ 4000))), .ref mo]) rfl ?_
  refine g_if_eq (q := 8) (tg := 12) cx dX3_canWeigh_5 (by decide) rfl (fun h_3 => ?_) (fun h_3 => ?_)
  · have vc := vc.1 (bI_0.mp h_3)
    refine g_iconst (q := 13) (v := iN 1) cx dX3_canWeigh_12 rfl rfl ?_
    refine g_cVw (q := 16) (b := mo) (As := [.int (iN 1)]) (wr := [(am, .inl (T.2.1 0, 7, .inl (zA masses))), (ap, .inl (T.2.1 0, 7, .inl (zA placing)))]) (st := []) cx hST hrw (k_X3_goesWell l hlt T mo am ae ap ab aw ac an a0 a1 a2 th many coins 1 (by decide)) q1122 s_X3_goesWell rfl 0 rfl rfl (g_perm [1, 2, 0] rfl rfl) (g_rmB rfl) (Nat.le_of_ble_eq_true rfl) dX3_canWeigh_13 rfl (fun v_ wn_ hv_ => ?_)
    obtain ⟨b_4, th2_5, rfl, rfl, e_6⟩ := hv_
    obtain ⟨rfl, rfl⟩ := e_6
    refine g_wp (ws2 := [(mo, .inr (2, [.int (iN 1), .ref am, .ref ae, .int (iN many), .ref ap, .ref ab, .ref aw, .int (iN coins), .ref ac, .ref an, .ref a0, .ref a1, .ref a2])), (am, .inl (T.2.1 0, 7, .inl (zA masses))), (ap, .inl (T.2.1 0, 7, .inl (zA placing)))]) (g_perm [2, 0, 1] rfl rfl) ?_
    refine g_cs (cells2 := 0) (slots2 := 0) (ws2 := [(mo, .inr (2, [.int (iN 1), .ref am, .ref ae, .int (iN many), .ref ap, .ref ab, .ref aw, .int (iN coins), .ref ac, .ref an, .ref a0, .ref a1, .ref a2])), (am, .inl (T.2.1 0, 7, .inl (zA masses))), (ap, .inl (T.2.1 0, 7, .inl (zA placing)))]) rfl rfl rfl ?_
    refine g_st (st2 := [.int (bI false)]) rfl ?_
    refine g_if_eq (q := 19) (tg := 31) cx dX3_canWeigh_16 (by decide) rfl (fun _ => ?_) (fun h => absurd h (by decide))
    refine g_iconst (q := 32) (v := iN 0) cx dX3_canWeigh_31 rfl rfl ?_
    exact g_iretW cx hr (by decide) ⟨false, 1, placing, rfl, rfl, vc⟩ (by first | exact Nat.le_of_ble_eq_true rfl | omega) (by first | exact Nat.le_of_ble_eq_true rfl | omega) dX3_canWeigh_32
  · have vc := vc.2 (bI_n0.mp h_3)
    refine g_iconst (q := 9) (v := iN 0) cx dX3_canWeigh_8 rfl rfl ?_
    refine g_goto (q := 13) cx dX3_canWeigh_9 (by decide) ?_
    refine g_cVw (q := 16) (b := mo) (As := [.int (iN 0)]) (wr := [(am, .inl (T.2.1 0, 7, .inl (zA masses))), (ap, .inl (T.2.1 0, 7, .inl (zA placing)))]) (st := []) cx hST hrw (k_X3_goesWell l hlt T mo am ae ap ab aw ac an a0 a1 a2 th many coins 0 (by decide)) q1122 s_X3_goesWell rfl 0 rfl rfl (g_perm [1, 2, 0] rfl rfl) (g_rmB rfl) (Nat.le_of_ble_eq_true rfl) dX3_canWeigh_13 rfl (fun v_ wn_ hv_ => ?_)
    obtain ⟨b_7, th2_8, rfl, rfl, e_9⟩ := hv_
    obtain ⟨rfl, rfl⟩ := e_9
    refine g_wp (ws2 := [(mo, .inr (2, [.int (iN 0), .ref am, .ref ae, .int (iN many), .ref ap, .ref ab, .ref aw, .int (iN coins), .ref ac, .ref an, .ref a0, .ref a1, .ref a2])), (am, .inl (T.2.1 0, 7, .inl (zA masses))), (ap, .inl (T.2.1 0, 7, .inl (zA placing)))]) (g_perm [2, 0, 1] rfl rfl) ?_
    refine g_cs (cells2 := 0) (slots2 := 0) (ws2 := [(mo, .inr (2, [.int (iN 0), .ref am, .ref ae, .int (iN many), .ref ap, .ref ab, .ref aw, .int (iN coins), .ref ac, .ref an, .ref a0, .ref a1, .ref a2])), (am, .inl (T.2.1 0, 7, .inl (zA masses))), (ap, .inl (T.2.1 0, 7, .inl (zA placing)))]) rfl rfl rfl ?_
    refine g_st (st2 := [.int (bI true)]) rfl ?_
    refine g_if_eq (q := 19) (tg := 31) cx dX3_canWeigh_16 (by decide) rfl (fun h => absurd h (by decide)) (fun _ => ?_)
    refine g_aload_n (q := 20) cx dX3_canWeigh_19 rfl rfl ?_
    refine g_iload_n (q := 21) cx dX3_canWeigh_20 rfl rfl ?_
    refine g_cVw (q := 24) (b := mo) (As := [.int (iN mass)]) (wr := []) (st := []) cx hST hrw (k_X3_count l hlt T mo am ae ap ab aw ac an a0 a1 a2 0 many coins masses placing mass n (vc.1) (vc.2.1) (vc.2.2.1) (vc.2.2.2.1)) q1149 s_X3_count rfl 0 rfl rfl g_perm1 (g_rmB rfl) (Nat.le_of_ble_eq_true rfl) dX3_canWeigh_21 rfl (fun v_ wn_ hv_ => ?_)
    have vc := vc.2
    have vc := vc.2
    have vc := vc.2
    have vc := vc.2
    obtain ⟨r_10, placing2_11, rfl, rfl, e_12⟩ := hv_
    subst e_12
    refine g_cs (cells2 := 0) (slots2 := 0) (ws2 := [(mo, .inr (2, [.int (iN 0), .ref am, .ref ae, .int (iN many), .ref ap, .ref ab, .ref aw, .int (iN coins), .ref ac, .ref an, .ref a0, .ref a1, .ref a2])), (am, .inl (T.2.1 0, 7, .inl (zA masses))), (ap, .inl (T.2.1 0, 7, .inl (zA placing2_11)))]) rfl rfl rfl ?_
    refine g_st (st2 := [.int (iN ((pcnt masses n mass (3 ^ n) : Nat) : Int))]) rfl ?_
    have vc := vc placing2_11 
    refine g_if_leZ (q := 27) (tg := 31) cx vc.1 dX3_canWeigh_24 (by decide) rfl (fun h_13 => ?_) (fun h_13 => ?_)
    · have vc := vc.2.1 h_13
      refine g_iconst (q := 32) (v := iN 0) cx dX3_canWeigh_31 rfl rfl ?_
      exact g_iretW cx hr (by decide) ⟨false, 0, placing2_11, rfl, rfl, vc⟩ (by first | exact Nat.le_of_ble_eq_true rfl | omega) (by first | exact Nat.le_of_ble_eq_true rfl | omega) dX3_canWeigh_32
    · have vc := vc.2.2 h_13
      refine g_iconst (q := 28) (v := iN 1) cx dX3_canWeigh_27 rfl rfl ?_
      refine g_goto (q := 32) cx dX3_canWeigh_28 (by decide) ?_
      exact g_iretW cx hr (by decide) ⟨true, 0, placing2_11, rfl, rfl, vc⟩ (by first | exact Nat.le_of_ble_eq_true rfl | omega) (by first | exact Nat.le_of_ble_eq_true rfl | omega) dX3_canWeigh_32

theorem k_X3_canWeigh (l : Launch) (hlt : l.stackTraces = false) (T : GT) (mo : Nat) (am : Nat) (ae : Nat) (ap : Nat) (ab : Nat) (aw : Nat) (ac : Nat) (an : Nat) (a0 : Nat) (a1 : Nat) (a2 : Nat) (th : Int) (many : Int) (coins : Int) (masses : Nat → Int) (placing : Nat → Int) (mass : Int) (n : Nat) (hp0 : many = n) (hp1 : n ≤ 7) (hp2 : msOK n masses) (hp3 : -2147483648 ≤ mass ∧ mass < 2147483648) : MW l T yX3_canWeigh cX3_canWeigh 2 (some .boolean) ({ frames := 2, cells := 0, slots := 0, locals := 47 }) [.ref mo, .int (iN mass)] [(mo, .inr (2, [.int (iN th), .ref am, .ref ae, .int (iN many), .ref ap, .ref ab, .ref aw, .int (iN coins), .ref ac, .ref an, .ref a0, .ref a1, .ref a2])), (am, .inl (T.2.1 0, 7, .inl (zA masses))), (ap, .inl (T.2.1 0, 7, .inl (zA placing)))] (fun v_ wn_ => ∃ (b : Bool), ∃ (th2 : Int), ∃ (placing2 : Nat → Int), v_ = some (.int (bI b)) ∧ wn_ = [(mo, .inr (2, [.int (iN th2), .ref am, .ref ae, .int (iN many), .ref ap, .ref ab, .ref aw, .int (iN coins), .ref ac, .ref an, .ref a0, .ref a1, .ref a2])), (am, .inl (T.2.1 0, 7, .inl (zA masses))), (ap, .inl (T.2.1 0, 7, .inl (zA placing2)))] ∧ b = ((decide (1 ≤ mass) && decide (mass ≤ 4000)) && decide (0 < pcnt masses n mass (3 ^ n))) ∧ th2 = (if 1 ≤ mass ∧ mass ≤ 4000 then 0 else 1)) 0 0 := by
  refine w_X3_canWeigh l hlt T mo am ae ap ab aw ac an a0 a1 a2 th many coins masses placing mass n _ ?_
  have h3 := pow3_7 hp1
  have hc : pcnt masses n mass (3 ^ n) ≤ 3 ^ n := cntB_le _ _
  refine ⟨hp3, fun h => ?_, fun h => ⟨hp0, hp1, hp2, hp3, fun pl => ⟨by omega, fun h2 => ?_, fun h2 => ?_⟩⟩⟩
  all_goals (simp only [Bool.and_eq_true, Bool.and_eq_false_iff, decide_eq_true_eq, decide_eq_false_iff_not] at h)
  · exact ⟨by rw [show (decide (1 ≤ mass) && decide (mass ≤ 4000)) = false from by simp; omega]; rfl, by rw [if_neg (by omega)]⟩
  · exact ⟨by simp only [h.1, h.2, decide_true]; simp; omega, by rw [if_pos h]⟩
  · exact ⟨by simp only [h.1, h.2, decide_true]; simp; omega, by rw [if_pos h]⟩

set_option maxRecDepth 100000 in
set_option maxHeartbeats 4000000 in
theorem w_X3_ways (l : Launch) (hlt : l.stackTraces = false) (T : GT) (mo : Nat) (am : Nat) (ae : Nat) (ap : Nat) (ab : Nat) (aw : Nat) (ac : Nat) (an : Nat) (a0 : Nat) (a1 : Nat) (a2 : Nat) (th : Int) (many : Int) (coins : Int) (masses : Nat → Int) (placing : Nat → Int) (mass : Int) (n : Nat)  (post : Int → Int → (Nat → Int) → Prop) (v0_ : (-2147483648 ≤ mass ∧ mass < 2147483648) ∧ (((decide (1 ≤ mass) && decide (mass ≤ 4000)) = false → (post 0 1 placing)) ∧ ((decide (1 ≤ mass) && decide (mass ≤ 4000)) = true → ((many = n) ∧ ((n ≤ 7) ∧ ((msOK n masses) ∧ ((-2147483648 ≤ mass ∧ mass < 2147483648) ∧ (∀ (placing2_11 : Nat → Int), post ((pcnt masses n mass (3 ^ n) : Nat) : Int) 0 placing2_11))))))))  : MW l T yX3_ways cX3_ways 2 (some .int) ({ frames := 2, cells := 0, slots := 0, locals := 47 }) [.ref mo, .int (iN mass)] [(mo, .inr (2, [.int (iN th), .ref am, .ref ae, .int (iN many), .ref ap, .ref ab, .ref aw, .int (iN coins), .ref ac, .ref an, .ref a0, .ref a1, .ref a2])), (am, .inl (T.2.1 0, 7, .inl (zA masses))), (ap, .inl (T.2.1 0, 7, .inl (zA placing)))] (fun v_ wn_ => ∃ (r : Int), ∃ (th2 : Int), ∃ (placing2 : Nat → Int), v_ = some (.int (iN r)) ∧ wn_ = [(mo, .inr (2, [.int (iN th2), .ref am, .ref ae, .int (iN many), .ref ap, .ref ab, .ref aw, .int (iN coins), .ref ac, .ref an, .ref a0, .ref a1, .ref a2])), (am, .inl (T.2.1 0, 7, .inl (zA masses))), (ap, .inl (T.2.1 0, 7, .inl (zA placing2)))] ∧ post r th2 placing2) 0 0 := by
  refine MW.start hlt (by decide) (lv0 := [some (.ref mo), some (.int (iN mass))]) rfl (Nat.le_of_ble_eq_true rfl) rfl ?_
  intro p e R s m args below meth c A cx hr hnm hST hrw
  have vc := v0_
  refine g_aload_n (q := 1) cx dX3_ways_0 rfl rfl ?_
  refine g_iload_n (q := 2) cx dX3_ways_1 rfl rfl ?_
  refine g_cSr (q := 5) (As := [.int (iN mass)]) (wr := [(mo, .inr (2, [.int (iN th), .ref am, .ref ae, .int (iN many), .ref ap, .ref ab, .ref aw, .int (iN coins), .ref ac, .ref an, .ref a0, .ref a1, .ref a2])), (am, .inl (T.2.1 0, 7, .inl (zA masses))), (ap, .inl (T.2.1 0, 7, .inl (zA placing)))]) (st := [.ref mo]) cx hST (k_X3_isMass l hlt T mass (vc.1)) q1146 s_X3_isMass rfl g_perm0 (g_rmB rfl) (Nat.le_of_ble_eq_true rfl) dX3_ways_2 rfl (fun v_ hv_ => ?_)
  have vc := vc.2
  obtain ⟨b_1, rfl, e_2⟩ := hv_
  subst e_2
  refine g_st (st2 := [.int (bI (decide (1 ≤ mass) && decide (mass ≤ 4000))), .ref mo]) rfl ?_
  refine g_if_eq (q := 8) (tg := 12) cx dX3_ways_5 (by decide) rfl (fun h_3 => ?_) (fun h_3 => ?_)
  · have vc := vc.1 (bI_0.mp h_3)
    refine g_iconst (q := 13) (v := iN 1) cx dX3_ways_12 rfl rfl ?_
    refine g_cVw (q := 16) (b := mo) (As := [.int (iN 1)]) (wr := [(am, .inl (T.2.1 0, 7, .inl (zA masses))), (ap, .inl (T.2.1 0, 7, .inl (zA placing)))]) (st := []) cx hST hrw (k_X3_goesWell l hlt T mo am ae ap ab aw ac an a0 a1 a2 th many coins 1 (by decide)) q1122 s_X3_goesWell rfl 0 rfl rfl (g_perm [1, 2, 0] rfl rfl) (g_rmB rfl) (Nat.le_of_ble_eq_true rfl) dX3_ways_13 rfl (fun v_ wn_ hv_ => ?_)
    obtain ⟨b_4, th2_5, rfl, rfl, e_6⟩ := hv_
    obtain ⟨rfl, rfl⟩ := e_6
    refine g_wp (ws2 := [(mo, .inr (2, [.int (iN 1), .ref am, .ref ae, .int (iN many), .ref ap, .ref ab, .ref aw, .int (iN coins), .ref ac, .ref an, .ref a0, .ref a1, .ref a2])), (am, .inl (T.2.1 0, 7, .inl (zA masses))), (ap, .inl (T.2.1 0, 7, .inl (zA placing)))]) (g_perm [2, 0, 1] rfl rfl) ?_
    refine g_cs (cells2 := 0) (slots2 := 0) (ws2 := [(mo, .inr (2, [.int (iN 1), .ref am, .ref ae, .int (iN many), .ref ap, .ref ab, .ref aw, .int (iN coins), .ref ac, .ref an, .ref a0, .ref a1, .ref a2])), (am, .inl (T.2.1 0, 7, .inl (zA masses))), (ap, .inl (T.2.1 0, 7, .inl (zA placing)))]) rfl rfl rfl ?_
    refine g_st (st2 := [.int (bI false)]) rfl ?_
    refine g_if_eq (q := 19) (tg := 27) cx dX3_ways_16 (by decide) rfl (fun _ => ?_) (fun h => absurd h (by decide))
    refine g_iconst (q := 28) (v := iN 0) cx dX3_ways_27 rfl rfl ?_
    exact g_iretW cx hr rfl ⟨0, 1, placing, rfl, rfl, vc⟩ (by first | exact Nat.le_of_ble_eq_true rfl | omega) (by first | exact Nat.le_of_ble_eq_true rfl | omega) dX3_ways_28
  · have vc := vc.2 (bI_n0.mp h_3)
    refine g_iconst (q := 9) (v := iN 0) cx dX3_ways_8 rfl rfl ?_
    refine g_goto (q := 13) cx dX3_ways_9 (by decide) ?_
    refine g_cVw (q := 16) (b := mo) (As := [.int (iN 0)]) (wr := [(am, .inl (T.2.1 0, 7, .inl (zA masses))), (ap, .inl (T.2.1 0, 7, .inl (zA placing)))]) (st := []) cx hST hrw (k_X3_goesWell l hlt T mo am ae ap ab aw ac an a0 a1 a2 th many coins 0 (by decide)) q1122 s_X3_goesWell rfl 0 rfl rfl (g_perm [1, 2, 0] rfl rfl) (g_rmB rfl) (Nat.le_of_ble_eq_true rfl) dX3_ways_13 rfl (fun v_ wn_ hv_ => ?_)
    obtain ⟨b_7, th2_8, rfl, rfl, e_9⟩ := hv_
    obtain ⟨rfl, rfl⟩ := e_9
    refine g_wp (ws2 := [(mo, .inr (2, [.int (iN 0), .ref am, .ref ae, .int (iN many), .ref ap, .ref ab, .ref aw, .int (iN coins), .ref ac, .ref an, .ref a0, .ref a1, .ref a2])), (am, .inl (T.2.1 0, 7, .inl (zA masses))), (ap, .inl (T.2.1 0, 7, .inl (zA placing)))]) (g_perm [2, 0, 1] rfl rfl) ?_
    refine g_cs (cells2 := 0) (slots2 := 0) (ws2 := [(mo, .inr (2, [.int (iN 0), .ref am, .ref ae, .int (iN many), .ref ap, .ref ab, .ref aw, .int (iN coins), .ref ac, .ref an, .ref a0, .ref a1, .ref a2])), (am, .inl (T.2.1 0, 7, .inl (zA masses))), (ap, .inl (T.2.1 0, 7, .inl (zA placing)))]) rfl rfl rfl ?_
    refine g_st (st2 := [.int (bI true)]) rfl ?_
    refine g_if_eq (q := 19) (tg := 27) cx dX3_ways_16 (by decide) rfl (fun h => absurd h (by decide)) (fun _ => ?_)
    refine g_aload_n (q := 20) cx dX3_ways_19 rfl rfl ?_
    refine g_iload_n (q := 21) cx dX3_ways_20 rfl rfl ?_
    refine g_cVw (q := 24) (b := mo) (As := [.int (iN mass)]) (wr := []) (st := []) cx hST hrw (k_X3_count l hlt T mo am ae ap ab aw ac an a0 a1 a2 0 many coins masses placing mass n (vc.1) (vc.2.1) (vc.2.2.1) (vc.2.2.2.1)) q1149 s_X3_count rfl 0 rfl rfl g_perm1 (g_rmB rfl) (Nat.le_of_ble_eq_true rfl) dX3_ways_21 rfl (fun v_ wn_ hv_ => ?_)
    have vc := vc.2
    have vc := vc.2
    have vc := vc.2
    have vc := vc.2
    obtain ⟨r_10, placing2_11, rfl, rfl, e_12⟩ := hv_
    subst e_12
    refine g_cs (cells2 := 0) (slots2 := 0) (ws2 := [(mo, .inr (2, [.int (iN 0), .ref am, .ref ae, .int (iN many), .ref ap, .ref ab, .ref aw, .int (iN coins), .ref ac, .ref an, .ref a0, .ref a1, .ref a2])), (am, .inl (T.2.1 0, 7, .inl (zA masses))), (ap, .inl (T.2.1 0, 7, .inl (zA placing2_11)))]) rfl rfl rfl ?_
    refine g_st (st2 := [.int (iN ((pcnt masses n mass (3 ^ n) : Nat) : Int))]) rfl ?_
    have vc := vc placing2_11 
    refine g_goto (q := 28) cx dX3_ways_24 (by decide) ?_
    exact g_iretW cx hr rfl ⟨((pcnt masses n mass (3 ^ n) : Nat) : Int), 0, placing2_11, rfl, rfl, vc⟩ (by first | exact Nat.le_of_ble_eq_true rfl | omega) (by first | exact Nat.le_of_ble_eq_true rfl | omega) dX3_ways_28

theorem k_X3_ways (l : Launch) (hlt : l.stackTraces = false) (T : GT) (mo : Nat) (am : Nat) (ae : Nat) (ap : Nat) (ab : Nat) (aw : Nat) (ac : Nat) (an : Nat) (a0 : Nat) (a1 : Nat) (a2 : Nat) (th : Int) (many : Int) (coins : Int) (masses : Nat → Int) (placing : Nat → Int) (mass : Int) (n : Nat) (hp0 : many = n) (hp1 : n ≤ 7) (hp2 : msOK n masses) (hp3 : -2147483648 ≤ mass ∧ mass < 2147483648) : MW l T yX3_ways cX3_ways 2 (some .int) ({ frames := 2, cells := 0, slots := 0, locals := 47 }) [.ref mo, .int (iN mass)] [(mo, .inr (2, [.int (iN th), .ref am, .ref ae, .int (iN many), .ref ap, .ref ab, .ref aw, .int (iN coins), .ref ac, .ref an, .ref a0, .ref a1, .ref a2])), (am, .inl (T.2.1 0, 7, .inl (zA masses))), (ap, .inl (T.2.1 0, 7, .inl (zA placing)))] (fun v_ wn_ => ∃ (r : Int), ∃ (th2 : Int), ∃ (placing2 : Nat → Int), v_ = some (.int (iN r)) ∧ wn_ = [(mo, .inr (2, [.int (iN th2), .ref am, .ref ae, .int (iN many), .ref ap, .ref ab, .ref aw, .int (iN coins), .ref ac, .ref an, .ref a0, .ref a1, .ref a2])), (am, .inl (T.2.1 0, 7, .inl (zA masses))), (ap, .inl (T.2.1 0, 7, .inl (zA placing2)))] ∧ r = (if 1 ≤ mass ∧ mass ≤ 4000 then ((pcnt masses n mass (3 ^ n) : Nat) : Int) else 0) ∧ th2 = (if 1 ≤ mass ∧ mass ≤ 4000 then 0 else 1)) 0 0 := by
  refine w_X3_ways l hlt T mo am ae ap ab aw ac an a0 a1 a2 th many coins masses placing mass n _ ?_
  refine ⟨hp3, fun h => ?_, fun h => ⟨hp0, hp1, hp2, hp3, fun pl => ?_⟩⟩
  all_goals (simp only [Bool.and_eq_true, Bool.and_eq_false_iff, decide_eq_true_eq, decide_eq_false_iff_not] at h)
  · exact ⟨by rw [if_neg (by omega)], by rw [if_neg (by omega)]⟩
  · exact ⟨by rw [if_pos h], by rw [if_pos h]⟩

set_option maxRecDepth 100000 in
set_option maxHeartbeats 4000000 in
theorem w_X3_waysByPlacings (l : Launch) (hlt : l.stackTraces = false) (T : GT) (mo : Nat) (am : Nat) (ae : Nat) (ap : Nat) (ab : Nat) (aw : Nat) (ac : Nat) (an : Nat) (a0 : Nat) (a1 : Nat) (a2 : Nat) (th : Int) (many : Int) (coins : Int) (masses : Nat → Int) (placing : Nat → Int) (mass : Int) (n : Nat)  (post : Int → Int → (Nat → Int) → Prop) (v0_ : (-2147483648 ≤ mass ∧ mass < 2147483648) ∧ (((decide (1 ≤ mass) && decide (mass ≤ 4000)) = false → (post 0 1 placing)) ∧ ((decide (1 ≤ mass) && decide (mass ≤ 4000)) = true → ((many = n) ∧ ((n ≤ 7) ∧ ((msOK n masses) ∧ ((-2147483648 ≤ mass ∧ mass < 2147483648) ∧ (∀ (placing2_11 : Nat → Int), post ((pcnt masses n mass (3 ^ n) : Nat) : Int) 0 placing2_11))))))))  : MW l T yX3_waysByPlacings cX3_waysByPlacings 2 (some .int) ({ frames := 2, cells := 0, slots := 0, locals := 47 }) [.ref mo, .int (iN mass)] [(mo, .inr (2, [.int (iN th), .ref am, .ref ae, .int (iN many), .ref ap, .ref ab, .ref aw, .int (iN coins), .ref ac, .ref an, .ref a0, .ref a1, .ref a2])), (am, .inl (T.2.1 0, 7, .inl (zA masses))), (ap, .inl (T.2.1 0, 7, .inl (zA placing)))] (fun v_ wn_ => ∃ (r : Int), ∃ (th2 : Int), ∃ (placing2 : Nat → Int), v_ = some (.int (iN r)) ∧ wn_ = [(mo, .inr (2, [.int (iN th2), .ref am, .ref ae, .int (iN many), .ref ap, .ref ab, .ref aw, .int (iN coins), .ref ac, .ref an, .ref a0, .ref a1, .ref a2])), (am, .inl (T.2.1 0, 7, .inl (zA masses))), (ap, .inl (T.2.1 0, 7, .inl (zA placing2)))] ∧ post r th2 placing2) 0 0 := by
  refine MW.start hlt (by decide) (lv0 := [some (.ref mo), some (.int (iN mass))]) rfl (Nat.le_of_ble_eq_true rfl) rfl ?_
  intro p e R s m args below meth c A cx hr hnm hST hrw
  have vc := v0_
  refine g_aload_n (q := 1) cx dX3_waysByPlacings_0 rfl rfl ?_
  refine g_iload_n (q := 2) cx dX3_waysByPlacings_1 rfl rfl ?_
  refine g_cSr (q := 5) (As := [.int (iN mass)]) (wr := [(mo, .inr (2, [.int (iN th), .ref am, .ref ae, .int (iN many), .ref ap, .ref ab, .ref aw, .int (iN coins), .ref ac, .ref an, .ref a0, .ref a1, .ref a2])), (am, .inl (T.2.1 0, 7, .inl (zA masses))), (ap, .inl (T.2.1 0, 7, .inl (zA placing)))]) (st := [.ref mo]) cx hST (k_X3_isMass l hlt T mass (vc.1)) q1146 s_X3_isMass rfl g_perm0 (g_rmB rfl) (Nat.le_of_ble_eq_true rfl) dX3_waysByPlacings_2 rfl (fun v_ hv_ => ?_)
  have vc := vc.2
  obtain ⟨b_1, rfl, e_2⟩ := hv_
  subst e_2
  refine g_st (st2 := [.int (bI (decide (1 ≤ mass) && decide (mass ≤ 4000))), .ref mo]) rfl ?_
  refine g_if_eq (q := 8) (tg := 12) cx dX3_waysByPlacings_5 (by decide) rfl (fun h_3 => ?_) (fun h_3 => ?_)
  · have vc := vc.1 (bI_0.mp h_3)
    refine g_iconst (q := 13) (v := iN 1) cx dX3_waysByPlacings_12 rfl rfl ?_
    refine g_cVw (q := 16) (b := mo) (As := [.int (iN 1)]) (wr := [(am, .inl (T.2.1 0, 7, .inl (zA masses))), (ap, .inl (T.2.1 0, 7, .inl (zA placing)))]) (st := []) cx hST hrw (k_X3_goesWell l hlt T mo am ae ap ab aw ac an a0 a1 a2 th many coins 1 (by decide)) q1122 s_X3_goesWell rfl 0 rfl rfl (g_perm [1, 2, 0] rfl rfl) (g_rmB rfl) (Nat.le_of_ble_eq_true rfl) dX3_waysByPlacings_13 rfl (fun v_ wn_ hv_ => ?_)
    obtain ⟨b_4, th2_5, rfl, rfl, e_6⟩ := hv_
    obtain ⟨rfl, rfl⟩ := e_6
    refine g_wp (ws2 := [(mo, .inr (2, [.int (iN 1), .ref am, .ref ae, .int (iN many), .ref ap, .ref ab, .ref aw, .int (iN coins), .ref ac, .ref an, .ref a0, .ref a1, .ref a2])), (am, .inl (T.2.1 0, 7, .inl (zA masses))), (ap, .inl (T.2.1 0, 7, .inl (zA placing)))]) (g_perm [2, 0, 1] rfl rfl) ?_
    refine g_cs (cells2 := 0) (slots2 := 0) (ws2 := [(mo, .inr (2, [.int (iN 1), .ref am, .ref ae, .int (iN many), .ref ap, .ref ab, .ref aw, .int (iN coins), .ref ac, .ref an, .ref a0, .ref a1, .ref a2])), (am, .inl (T.2.1 0, 7, .inl (zA masses))), (ap, .inl (T.2.1 0, 7, .inl (zA placing)))]) rfl rfl rfl ?_
    refine g_st (st2 := [.int (bI false)]) rfl ?_
    refine g_if_eq (q := 19) (tg := 27) cx dX3_waysByPlacings_16 (by decide) rfl (fun _ => ?_) (fun h => absurd h (by decide))
    refine g_iconst (q := 28) (v := iN 0) cx dX3_waysByPlacings_27 rfl rfl ?_
    exact g_iretW cx hr rfl ⟨0, 1, placing, rfl, rfl, vc⟩ (by first | exact Nat.le_of_ble_eq_true rfl | omega) (by first | exact Nat.le_of_ble_eq_true rfl | omega) dX3_waysByPlacings_28
  · have vc := vc.2 (bI_n0.mp h_3)
    refine g_iconst (q := 9) (v := iN 0) cx dX3_waysByPlacings_8 rfl rfl ?_
    refine g_goto (q := 13) cx dX3_waysByPlacings_9 (by decide) ?_
    refine g_cVw (q := 16) (b := mo) (As := [.int (iN 0)]) (wr := [(am, .inl (T.2.1 0, 7, .inl (zA masses))), (ap, .inl (T.2.1 0, 7, .inl (zA placing)))]) (st := []) cx hST hrw (k_X3_goesWell l hlt T mo am ae ap ab aw ac an a0 a1 a2 th many coins 0 (by decide)) q1122 s_X3_goesWell rfl 0 rfl rfl (g_perm [1, 2, 0] rfl rfl) (g_rmB rfl) (Nat.le_of_ble_eq_true rfl) dX3_waysByPlacings_13 rfl (fun v_ wn_ hv_ => ?_)
    obtain ⟨b_7, th2_8, rfl, rfl, e_9⟩ := hv_
    obtain ⟨rfl, rfl⟩ := e_9
    refine g_wp (ws2 := [(mo, .inr (2, [.int (iN 0), .ref am, .ref ae, .int (iN many), .ref ap, .ref ab, .ref aw, .int (iN coins), .ref ac, .ref an, .ref a0, .ref a1, .ref a2])), (am, .inl (T.2.1 0, 7, .inl (zA masses))), (ap, .inl (T.2.1 0, 7, .inl (zA placing)))]) (g_perm [2, 0, 1] rfl rfl) ?_
    refine g_cs (cells2 := 0) (slots2 := 0) (ws2 := [(mo, .inr (2, [.int (iN 0), .ref am, .ref ae, .int (iN many), .ref ap, .ref ab, .ref aw, .int (iN coins), .ref ac, .ref an, .ref a0, .ref a1, .ref a2])), (am, .inl (T.2.1 0, 7, .inl (zA masses))), (ap, .inl (T.2.1 0, 7, .inl (zA placing)))]) rfl rfl rfl ?_
    refine g_st (st2 := [.int (bI true)]) rfl ?_
    refine g_if_eq (q := 19) (tg := 27) cx dX3_waysByPlacings_16 (by decide) rfl (fun h => absurd h (by decide)) (fun _ => ?_)
    refine g_aload_n (q := 20) cx dX3_waysByPlacings_19 rfl rfl ?_
    refine g_iload_n (q := 21) cx dX3_waysByPlacings_20 rfl rfl ?_
    refine g_cVw (q := 24) (b := mo) (As := [.int (iN mass)]) (wr := []) (st := []) cx hST hrw (k_X3_count l hlt T mo am ae ap ab aw ac an a0 a1 a2 0 many coins masses placing mass n (vc.1) (vc.2.1) (vc.2.2.1) (vc.2.2.2.1)) q1149 s_X3_count rfl 0 rfl rfl g_perm1 (g_rmB rfl) (Nat.le_of_ble_eq_true rfl) dX3_waysByPlacings_21 rfl (fun v_ wn_ hv_ => ?_)
    have vc := vc.2
    have vc := vc.2
    have vc := vc.2
    have vc := vc.2
    obtain ⟨r_10, placing2_11, rfl, rfl, e_12⟩ := hv_
    subst e_12
    refine g_cs (cells2 := 0) (slots2 := 0) (ws2 := [(mo, .inr (2, [.int (iN 0), .ref am, .ref ae, .int (iN many), .ref ap, .ref ab, .ref aw, .int (iN coins), .ref ac, .ref an, .ref a0, .ref a1, .ref a2])), (am, .inl (T.2.1 0, 7, .inl (zA masses))), (ap, .inl (T.2.1 0, 7, .inl (zA placing2_11)))]) rfl rfl rfl ?_
    refine g_st (st2 := [.int (iN ((pcnt masses n mass (3 ^ n) : Nat) : Int))]) rfl ?_
    have vc := vc placing2_11 
    refine g_goto (q := 28) cx dX3_waysByPlacings_24 (by decide) ?_
    exact g_iretW cx hr rfl ⟨((pcnt masses n mass (3 ^ n) : Nat) : Int), 0, placing2_11, rfl, rfl, vc⟩ (by first | exact Nat.le_of_ble_eq_true rfl | omega) (by first | exact Nat.le_of_ble_eq_true rfl | omega) dX3_waysByPlacings_28

theorem k_X3_waysByPlacings (l : Launch) (hlt : l.stackTraces = false) (T : GT) (mo : Nat) (am : Nat) (ae : Nat) (ap : Nat) (ab : Nat) (aw : Nat) (ac : Nat) (an : Nat) (a0 : Nat) (a1 : Nat) (a2 : Nat) (th : Int) (many : Int) (coins : Int) (masses : Nat → Int) (placing : Nat → Int) (mass : Int) (n : Nat) (hp0 : many = n) (hp1 : n ≤ 7) (hp2 : msOK n masses) (hp3 : -2147483648 ≤ mass ∧ mass < 2147483648) : MW l T yX3_waysByPlacings cX3_waysByPlacings 2 (some .int) ({ frames := 2, cells := 0, slots := 0, locals := 47 }) [.ref mo, .int (iN mass)] [(mo, .inr (2, [.int (iN th), .ref am, .ref ae, .int (iN many), .ref ap, .ref ab, .ref aw, .int (iN coins), .ref ac, .ref an, .ref a0, .ref a1, .ref a2])), (am, .inl (T.2.1 0, 7, .inl (zA masses))), (ap, .inl (T.2.1 0, 7, .inl (zA placing)))] (fun v_ wn_ => ∃ (r : Int), ∃ (th2 : Int), ∃ (placing2 : Nat → Int), v_ = some (.int (iN r)) ∧ wn_ = [(mo, .inr (2, [.int (iN th2), .ref am, .ref ae, .int (iN many), .ref ap, .ref ab, .ref aw, .int (iN coins), .ref ac, .ref an, .ref a0, .ref a1, .ref a2])), (am, .inl (T.2.1 0, 7, .inl (zA masses))), (ap, .inl (T.2.1 0, 7, .inl (zA placing2)))] ∧ r = (if 1 ≤ mass ∧ mass ≤ 4000 then ((pcnt masses n mass (3 ^ n) : Nat) : Int) else 0) ∧ th2 = (if 1 ≤ mass ∧ mass ≤ 4000 then 0 else 1)) 0 0 := by
  refine w_X3_waysByPlacings l hlt T mo am ae ap ab aw ac an a0 a1 a2 th many coins masses placing mass n _ ?_
  refine ⟨hp3, fun h => ?_, fun h => ⟨hp0, hp1, hp2, hp3, fun pl => ?_⟩⟩
  all_goals (simp only [Bool.and_eq_true, Bool.and_eq_false_iff, decide_eq_true_eq, decide_eq_false_iff_not] at h)
  · exact ⟨by rw [if_neg (by omega)], by rw [if_neg (by omega)]⟩
  · exact ⟨by rw [if_pos h], by rw [if_pos h]⟩
