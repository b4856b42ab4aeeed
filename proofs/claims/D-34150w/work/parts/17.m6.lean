set_option maxRecDepth 100000 in
set_option maxHeartbeats 4000000 in
theorem w_X3_layWeighed (l : Launch) (hlt : l.stackTraces = false) (T : GT) (mo : Nat) (am : Nat) (ae : Nat) (ap : Nat) (ab : Nat) (aw : Nat) (ac : Nat) (an : Nat) (a0 : Nat) (a1 : Nat) (a2 : Nat) (th : Int) (many : Int) (coins : Int) (masses : Nat → Int) (placing : Nat → Int) (weighed : Nat → Bool) (set : Int) (n : Nat) (I2 : Int → (Nat → Bool) → Prop) (M2 : Int → (Nat → Bool) → g_mu) (I24 : Int → (Nat → Int) → (Nat → Bool) → Prop) (M24 : Int → (Nat → Int) → (Nat → Bool) → g_mu) (I44 : Int → Int → Bool → Int → (Nat → Int) → (Nat → Bool) → Prop) (M44 : Int → Int → Bool → Int → (Nat → Int) → (Nat → Bool) → g_mu) (post : (Nat → Int) → (Nat → Bool) → Prop) (v0_ : I2 0 weighed) (v2 : ∀ (k : Int) (wg : Nat → Bool), I2 k wg → (-2147483648 ≤ k ∧ k < 2147483648) ∧ ((8000 < k → (I24 0 placing wg ∧ g_lt (M24 0 placing wg) (M2 k wg))) ∧ (k ≤ 8000 → ((0 ≤ k ∧ k < 8001) ∧ (I2 (k + 1) (va_up wg k.toNat false) ∧ g_lt (M2 (k + 1) (va_up wg k.toNat false)) (M2 k wg)))))) (v24 : ∀ (number : Int) (pl : Nat → Int) (wg : Nat → Bool), I24 number pl wg → (many = n) ∧ ((n ≤ 7) ∧ ((-2147483648 ≤ number ∧ number < 2147483648) ∧ ((-2147483648 ≤ ((3 ^ n : Nat) : Int) ∧ ((3 ^ n : Nat) : Int) < 2147483648) ∧ ((((3 ^ n : Nat) : Int) ≤ number → (post pl wg)) ∧ (number < ((3 ^ n : Nat) : Int) → ((many = n) ∧ ((n ≤ 7) ∧ ((msOK n masses) ∧ ((0 ≤ number ∧ number < 2147483648) ∧ (I44 number (psum masses n number.toNat n) true 0 (plac n number.toNat pl) wg ∧ g_lt (M44 number (psum masses n number.toNat n) true 0 (plac n number.toNat pl) wg) (M24 number pl wg)))))))))))) (v44 : ∀ (number : Int) (sum : Int) (is : Bool) (k : Int) (pl : Nat → Int) (wg : Nat → Bool), I44 number sum is k pl wg → (-2147483648 ≤ k ∧ k < 2147483648) ∧ ((-2147483648 ≤ many ∧ many < 2147483648) ∧ ((many ≤ k → ((0 ≤ (4000 + sum) ∧ (4000 + sum) < 8001) ∧ (((wg (4000 + sum).toNat) = true → ((0 ≤ (4000 + sum) ∧ (4000 + sum) < 8001) ∧ (I24 (number + 1) pl (va_up wg (4000 + sum).toNat true) ∧ g_lt (M24 (number + 1) pl (va_up wg (4000 + sum).toNat true)) (M44 number sum is k pl wg)))) ∧ ((wg (4000 + sum).toNat) = false → ((is = false → ((0 ≤ (4000 + sum) ∧ (4000 + sum) < 8001) ∧ (I24 (number + 1) pl (va_up wg (4000 + sum).toNat false) ∧ g_lt (M24 (number + 1) pl (va_up wg (4000 + sum).toNat false)) (M44 number sum is k pl wg)))) ∧ (is = true → ((0 ≤ (4000 + sum) ∧ (4000 + sum) < 8001) ∧ (I24 (number + 1) pl (va_up wg (4000 + sum).toNat true) ∧ g_lt (M24 (number + 1) pl (va_up wg (4000 + sum).toNat true)) (M44 number sum is k pl wg))))))))) ∧ (k < many → ((is = false → (I44 number sum false (k + 1) pl wg ∧ g_lt (M44 number sum false (k + 1) pl wg) (M44 number sum is k pl wg))) ∧ (is = true → ((0 ≤ k ∧ k < 7) ∧ ((-2147483648 ≤ (pl k.toNat) ∧ (pl k.toNat) < 2147483648) ∧ (((pl k.toNat) = 0 → (I44 number sum true (k + 1) pl wg ∧ g_lt (M44 number sum true (k + 1) pl wg) (M44 number sum is k pl wg))) ∧ (¬ (pl k.toNat) = 0 → ((0 ≤ set ∧ set < 2147483648) ∧ ((0 ≤ k ∧ k < 32) ∧ (((set.toNat.testBit k.toNat) = false → (I44 number sum false (k + 1) pl wg ∧ g_lt (M44 number sum false (k + 1) pl wg) (M44 number sum is k pl wg))) ∧ ((set.toNat.testBit k.toNat) = true → (I44 number sum true (k + 1) pl wg ∧ g_lt (M44 number sum true (k + 1) pl wg) (M44 number sum is k pl wg)))))))))))))))) : MW l T yX3_layWeighed cX3_layWeighed 6 none ({ frames := 1, cells := 0, slots := 0, locals := 24 }) [.ref mo, .int (iN set)] [(mo, .inr (2, [.int (iN th), .ref am, .ref ae, .int (iN many), .ref ap, .ref ab, .ref aw, .int (iN coins), .ref ac, .ref an, .ref a0, .ref a1, .ref a2])), (am, .inl (T.2.1 0, 7, .inl (zA masses))), (ap, .inl (T.2.1 0, 7, .inl (zA placing))), (aw, .inl (T.2.1 3, 8001, .inl (zB weighed)))] (fun v_ wn_ => ∃ (placing2 : Nat → Int), ∃ (weighed2 : Nat → Bool), v_ = none ∧ wn_ = [(mo, .inr (2, [.int (iN th), .ref am, .ref ae, .int (iN many), .ref ap, .ref ab, .ref aw, .int (iN coins), .ref ac, .ref an, .ref a0, .ref a1, .ref a2])), (am, .inl (T.2.1 0, 7, .inl (zA masses))), (ap, .inl (T.2.1 0, 7, .inl (zA placing2))), (aw, .inl (T.2.1 3, 8001, .inl (zB weighed2)))] ∧ post placing2 weighed2) 0 0 := by
  refine MW.start hlt (by decide) (lv0 := [some (.ref mo), some (.int (iN set)), none, none, none, none]) rfl (Nat.le_of_ble_eq_true rfl) rfl ?_
  intro p e R s m args below meth c A cx hr hnm hST hrw
  have key : ∀ μ : g_mu, (∀ (k : Int) (wg : Nat → Bool), I2 k wg → M2 k wg = μ → G p l e R s m args below meth c 6 T A A (MQ below (g_Q T (fun v_ wn_ => ∃ (placing2 : Nat → Int), ∃ (weighed2 : Nat → Bool), v_ = none ∧ wn_ = [(mo, .inr (2, [.int (iN th), .ref am, .ref ae, .int (iN many), .ref ap, .ref ab, .ref aw, .int (iN coins), .ref ac, .ref an, .ref a0, .ref a1, .ref a2])), (am, .inl (T.2.1 0, 7, .inl (zA masses))), (ap, .inl (T.2.1 0, 7, .inl (zA placing2))), (aw, .inl (T.2.1 3, 8001, .inl (zB weighed2)))] ∧ post placing2 weighed2) A) args s 0 0 A) 0 0 [(mo, .inr (2, [.int (iN th), .ref am, .ref ae, .int (iN many), .ref ap, .ref ab, .ref aw, .int (iN coins), .ref ac, .ref an, .ref a0, .ref a1, .ref a2])), (am, .inl (T.2.1 0, 7, .inl (zA masses))), (ap, .inl (T.2.1 0, 7, .inl (zA placing))), (aw, .inl (T.2.1 3, 8001, .inl (zB wg)))] [some (.ref mo), some (.int (iN set)), some (.int (iN k)), none, none, none] 2 []) ∧ (∀ (number : Int) (pl : Nat → Int) (wg : Nat → Bool), I24 number pl wg → M24 number pl wg = μ → G p l e R s m args below meth c 6 T A A (MQ below (g_Q T (fun v_ wn_ => ∃ (placing2 : Nat → Int), ∃ (weighed2 : Nat → Bool), v_ = none ∧ wn_ = [(mo, .inr (2, [.int (iN th), .ref am, .ref ae, .int (iN many), .ref ap, .ref ab, .ref aw, .int (iN coins), .ref ac, .ref an, .ref a0, .ref a1, .ref a2])), (am, .inl (T.2.1 0, 7, .inl (zA masses))), (ap, .inl (T.2.1 0, 7, .inl (zA placing2))), (aw, .inl (T.2.1 3, 8001, .inl (zB weighed2)))] ∧ post placing2 weighed2) A) args s 0 0 A) 0 0 [(mo, .inr (2, [.int (iN th), .ref am, .ref ae, .int (iN many), .ref ap, .ref ab, .ref aw, .int (iN coins), .ref ac, .ref an, .ref a0, .ref a1, .ref a2])), (am, .inl (T.2.1 0, 7, .inl (zA masses))), (ap, .inl (T.2.1 0, 7, .inl (zA pl))), (aw, .inl (T.2.1 3, 8001, .inl (zB wg)))] [some (.ref mo), some (.int (iN set)), some (.int (iN number)), none, none, none] 24 []) ∧ (∀ (number : Int) (sum : Int) (is : Bool) (k : Int) (pl : Nat → Int) (wg : Nat → Bool), I44 number sum is k pl wg → M44 number sum is k pl wg = μ → G p l e R s m args below meth c 6 T A A (MQ below (g_Q T (fun v_ wn_ => ∃ (placing2 : Nat → Int), ∃ (weighed2 : Nat → Bool), v_ = none ∧ wn_ = [(mo, .inr (2, [.int (iN th), .ref am, .ref ae, .int (iN many), .ref ap, .ref ab, .ref aw, .int (iN coins), .ref ac, .ref an, .ref a0, .ref a1, .ref a2])), (am, .inl (T.2.1 0, 7, .inl (zA masses))), (ap, .inl (T.2.1 0, 7, .inl (zA placing2))), (aw, .inl (T.2.1 3, 8001, .inl (zB weighed2)))] ∧ post placing2 weighed2) A) args s 0 0 A) 0 0 [(mo, .inr (2, [.int (iN th), .ref am, .ref ae, .int (iN many), .ref ap, .ref ab, .ref aw, .int (iN coins), .ref ac, .ref an, .ref a0, .ref a1, .ref a2])), (am, .inl (T.2.1 0, 7, .inl (zA masses))), (ap, .inl (T.2.1 0, 7, .inl (zA pl))), (aw, .inl (T.2.1 3, 8001, .inl (zB wg)))] [some (.ref mo), some (.int (iN set)), some (.int (iN number)), some (.int (iN sum)), some (.int (bI is)), some (.int (iN k))] 44 []) := by
    refine g_ind (fun μ ih => ⟨?_, ?_, ?_⟩)
    · intro k wg hI hM
      subst hM
      have vc := v2 k wg hI
      refine g_iload_n (q := 3) cx dX3_layWeighed_2 rfl rfl ?_
      refine g_sipush (q := 6) (v := iN 8000) cx dX3_layWeighed_3 (by decide) rfl ?_
      refine g_icmp_gtZ (q := 9) (tg := 22) cx vc.1 (by decide) dX3_layWeighed_6 (by decide) rfl (fun h_1 => ?_) (fun h_1 => ?_)
      · have vc := vc.2.1 h_1
        refine g_iconst (q := 23) (v := iN 0) cx dX3_layWeighed_22 rfl rfl ?_
        refine g_istore_n (q := 24) (lv2 := [some (.ref mo), some (.int (iN set)), some (.int (iN 0)), none, none, none]) cx dX3_layWeighed_23 rfl (by decide) rfl rfl ?_
        exact ((ih _ vc.2).2.1) 0 placing wg vc.1 rfl
      · have vc := vc.2.2 h_1
        refine g_aload_n (q := 10) cx dX3_layWeighed_9 rfl rfl ?_
        refine g_get (q := 13) cx k_cX3 0 rfl 6 (by decide) q1076 (Or.inl rfl) rfl dX3_layWeighed_10 rfl ?_
        refine g_iload_n (q := 14) cx dX3_layWeighed_13 rfl rfl ?_
        refine g_iconst (q := 15) (v := iN 0) cx dX3_layWeighed_14 rfl rfl ?_
        refine g_zastZ (q := 16) (b := false) (ws2 := [(mo, .inr (2, [.int (iN th), .ref am, .ref ae, .int (iN many), .ref ap, .ref ab, .ref aw, .int (iN coins), .ref ac, .ref an, .ref a0, .ref a1, .ref a2])), (am, .inl (T.2.1 0, 7, .inl (zA masses))), (ap, .inl (T.2.1 0, 7, .inl (zA placing))), (aw, .inl (T.2.1 3, 8001, .inl (zB (va_up wg k.toNat false))))]) cx hrw 3 (by decide) rfl vc.1 rfl dX3_layWeighed_15 rfl ?_
        have vc := vc.2
        refine g_iinc (q := 19) (v := iN (k + 1)) (lv2 := [some (.ref mo), some (.int (iN set)), some (.int (iN (k + 1))), none, none, none]) cx dX3_layWeighed_16 rfl (iN_add _ _) (by decide) rfl rfl ?_
        refine g_goto (q := 2) cx dX3_layWeighed_19 (by decide) ?_
        exact ((ih _ vc.2).1) (k + 1) (va_up wg k.toNat false) vc.1 rfl
    · intro number pl wg hI hM
      subst hM
      have vc := v24 number pl wg hI
      refine g_iload_n (q := 25) cx dX3_layWeighed_24 rfl rfl ?_
      refine g_aload_n (q := 26) cx dX3_layWeighed_25 rfl rfl ?_
      refine g_cVr (q := 29) (b := mo) (As := []) (wr := [(am, .inl (T.2.1 0, 7, .inl (zA masses))), (ap, .inl (T.2.1 0, 7, .inl (zA pl))), (aw, .inl (T.2.1 3, 8001, .inl (zB wg)))]) (st := [.int (iN number)]) cx hST (k_X3_placings l hlt T mo am ae ap ab aw ac an a0 a1 a2 th many coins n (vc.1) (vc.2.1)) q1153 s_X3_placings rfl 0 rfl rfl (g_perm [1, 2, 3, 0] rfl rfl) (g_rmB rfl) (Nat.le_of_ble_eq_true rfl) dX3_layWeighed_26 rfl (fun v_ hv_ => ?_)
      have vc := vc.2
      have vc := vc.2
      obtain ⟨r_2, rfl, e_3⟩ := hv_
      subst e_3
      refine g_st (st2 := [.int (iN ((3 ^ n : Nat) : Int)), .int (iN number)]) rfl ?_
      refine g_icmp_geZ (q := 32) (tg := 129) cx vc.1 vc.2.1 dX3_layWeighed_29 (by decide) rfl (fun h_4 => ?_) (fun h_4 => ?_)
      · have vc := vc.2.2.1 h_4
        exact g_vretW cx hr ⟨pl, wg, rfl, rfl, vc⟩ (by first | exact Nat.le_of_ble_eq_true rfl | omega) (by first | exact Nat.le_of_ble_eq_true rfl | omega) dX3_layWeighed_129
      · have vc := vc.2.2.2 h_4
        refine g_aload_n (q := 33) cx dX3_layWeighed_32 rfl rfl ?_
        refine g_iload_n (q := 34) cx dX3_layWeighed_33 rfl rfl ?_
        refine g_cVw (q := 37) (b := mo) (As := [.int (iN number)]) (wr := [(aw, .inl (T.2.1 3, 8001, .inl (zB wg)))]) (st := []) cx hST hrw (k_X3_place l hlt T mo am ae ap ab aw ac an a0 a1 a2 th many coins masses pl number n (vc.1) (vc.2.1) (vc.2.2.1) (vc.2.2.2.1)) q1157 s_X3_place rfl 0 rfl rfl (g_perm [3, 0, 1, 2] rfl rfl) (g_rmB rfl) (Nat.le_of_ble_eq_true rfl) dX3_layWeighed_34 rfl (fun v_ wn_ hv_ => ?_)
        have vc := vc.2
        have vc := vc.2
        have vc := vc.2
        have vc := vc.2
        obtain ⟨r_5, placing2_6, rfl, rfl, e_7⟩ := hv_
        obtain ⟨rfl, rfl⟩ := e_7
        refine g_wp (ws2 := [(mo, .inr (2, [.int (iN th), .ref am, .ref ae, .int (iN many), .ref ap, .ref ab, .ref aw, .int (iN coins), .ref ac, .ref an, .ref a0, .ref a1, .ref a2])), (am, .inl (T.2.1 0, 7, .inl (zA masses))), (ap, .inl (T.2.1 0, 7, .inl (zA (plac n number.toNat pl)))), (aw, .inl (T.2.1 3, 8001, .inl (zB wg)))]) (g_perm [1, 2, 3, 0] rfl rfl) ?_
        refine g_cs (cells2 := 0) (slots2 := 0) (ws2 := [(mo, .inr (2, [.int (iN th), .ref am, .ref ae, .int (iN many), .ref ap, .ref ab, .ref aw, .int (iN coins), .ref ac, .ref an, .ref a0, .ref a1, .ref a2])), (am, .inl (T.2.1 0, 7, .inl (zA masses))), (ap, .inl (T.2.1 0, 7, .inl (zA (plac n number.toNat pl)))), (aw, .inl (T.2.1 3, 8001, .inl (zB wg)))]) rfl rfl rfl ?_
        refine g_st (st2 := [.int (iN (psum masses n number.toNat n))]) rfl ?_
        refine g_istore_n (q := 38) (lv2 := [some (.ref mo), some (.int (iN set)), some (.int (iN number)), some (.int (iN (psum masses n number.toNat n))), none, none]) cx dX3_layWeighed_37 rfl (by decide) rfl rfl ?_
        refine g_iconst (q := 39) (v := iN 1) cx dX3_layWeighed_38 rfl rfl ?_
        refine g_istore (q := 41) (lv2 := [some (.ref mo), some (.int (iN set)), some (.int (iN number)), some (.int (iN (psum masses n number.toNat n))), some (.int (iN 1)), none]) cx dX3_layWeighed_39 (by decide) rfl rfl ?_
        refine g_iconst (q := 42) (v := iN 0) cx dX3_layWeighed_41 rfl rfl ?_
        refine g_istore (q := 44) (lv2 := [some (.ref mo), some (.int (iN set)), some (.int (iN number)), some (.int (iN (psum masses n number.toNat n))), some (.int (iN 1)), some (.int (iN 0))]) cx dX3_layWeighed_42 (by decide) rfl rfl ?_
        exact ((ih _ vc.2).2.2) number (psum masses n number.toNat n) true 0 (plac n number.toNat pl) wg vc.1 rfl
    · intro number sum is k pl wg hI hM
      subst hM
      have vc := v44 number sum is k pl wg hI
      refine g_iload (q := 46) cx dX3_layWeighed_44 rfl rfl ?_
      refine g_aload_n (q := 47) cx dX3_layWeighed_46 rfl rfl ?_
      refine g_get (q := 50) cx k_cX3 0 rfl 3 (by decide) q1073 (Or.inl rfl) rfl dX3_layWeighed_47 rfl ?_
      refine g_icmp_geZ (q := 53) (tg := 90) cx vc.1 vc.2.1 dX3_layWeighed_50 (by decide) rfl (fun h_8 => ?_) (fun h_8 => ?_)
      · have vc := vc.2.2.1 h_8
        refine g_aload_n (q := 91) cx dX3_layWeighed_90 rfl rfl ?_
        refine g_get (q := 94) cx k_cX3 0 rfl 6 (by decide) q1076 (Or.inl rfl) rfl dX3_layWeighed_91 rfl ?_
        refine g_sipush (q := 97) (v := iN 4000) cx dX3_layWeighed_94 (by decide) rfl ?_
        refine g_iload_n (q := 98) cx dX3_layWeighed_97 rfl rfl ?_
        refine g_iaddZ (q := 99) cx dX3_layWeighed_98 rfl ?_
        refine g_aload_n (q := 100) cx dX3_layWeighed_99 rfl rfl ?_
        refine g_get (q := 103) cx k_cX3 0 rfl 6 (by decide) q1076 (Or.inl rfl) rfl dX3_layWeighed_100 rfl ?_
        refine g_sipush (q := 106) (v := iN 4000) cx dX3_layWeighed_103 (by decide) rfl ?_
        refine g_iload_n (q := 107) cx dX3_layWeighed_106 rfl rfl ?_
        refine g_iaddZ (q := 108) cx dX3_layWeighed_107 rfl ?_
        refine g_zaldZ (q := 109) cx 3 (by decide) rfl vc.1 dX3_layWeighed_108 rfl ?_
        have vc := vc.2
        refine g_if_ne (q := 112) (tg := 117) cx dX3_layWeighed_109 (by decide) rfl (fun h_9 => ?_) (fun h_9 => ?_)
        · have vc := vc.1 (bI_n0.mp h_9)
          refine g_iconst (q := 118) (v := iN 1) cx dX3_layWeighed_117 rfl rfl ?_
          refine g_goto (q := 122) cx dX3_layWeighed_118 (by decide) ?_
          refine g_zastZ (q := 123) (b := true) (ws2 := [(mo, .inr (2, [.int (iN th), .ref am, .ref ae, .int (iN many), .ref ap, .ref ab, .ref aw, .int (iN coins), .ref ac, .ref an, .ref a0, .ref a1, .ref a2])), (am, .inl (T.2.1 0, 7, .inl (zA masses))), (ap, .inl (T.2.1 0, 7, .inl (zA pl))), (aw, .inl (T.2.1 3, 8001, .inl (zB (va_up wg (4000 + sum).toNat true))))]) cx hrw 3 (by decide) rfl vc.1 rfl dX3_layWeighed_122 rfl ?_
          have vc := vc.2
          refine g_iinc (q := 126) (v := iN (number + 1)) (lv2 := [some (.ref mo), some (.int (iN set)), some (.int (iN (number + 1))), some (.int (iN sum)), some (.int (bI is)), some (.int (iN k))]) cx dX3_layWeighed_123 rfl (iN_add _ _) (by decide) rfl rfl ?_
          refine g_goto (q := 24) cx dX3_layWeighed_126 (by decide) ?_
          refine g_wk (lv2 := [some (.ref mo), some (.int (iN set)), some (.int (iN (number + 1))), none, none, none]) ⟨rfl, ⟨rfl, ⟨rfl, trivial⟩⟩⟩ ?_
          exact ((ih _ vc.2).2.1) (number + 1) pl (va_up wg (4000 + sum).toNat true) vc.1 rfl
        · have vc := vc.2 (bI_0.mp h_9)
          refine g_iload (q := 114) cx dX3_layWeighed_112 rfl rfl ?_
          refine g_if_eq (q := 117) (tg := 121) cx dX3_layWeighed_114 (by decide) rfl (fun h_10 => ?_) (fun h_10 => ?_)
          · have vc := vc.1 (bI_0.mp h_10)
            refine g_iconst (q := 122) (v := iN 0) cx dX3_layWeighed_121 rfl rfl ?_
            refine g_zastZ (q := 123) (b := false) (ws2 := [(mo, .inr (2, [.int (iN th), .ref am, .ref ae, .int (iN many), .ref ap, .ref ab, .ref aw, .int (iN coins), .ref ac, .ref an, .ref a0, .ref a1, .ref a2])), (am, .inl (T.2.1 0, 7, .inl (zA masses))), (ap, .inl (T.2.1 0, 7, .inl (zA pl))), (aw, .inl (T.2.1 3, 8001, .inl (zB (va_up wg (4000 + sum).toNat false))))]) cx hrw 3 (by decide) rfl vc.1 rfl dX3_layWeighed_122 rfl ?_
            have vc := vc.2
            refine g_iinc (q := 126) (v := iN (number + 1)) (lv2 := [some (.ref mo), some (.int (iN set)), some (.int (iN (number + 1))), some (.int (iN sum)), some (.int (bI is)), some (.int (iN k))]) cx dX3_layWeighed_123 rfl (iN_add _ _) (by decide) rfl rfl ?_
            refine g_goto (q := 24) cx dX3_layWeighed_126 (by decide) ?_
            refine g_wk (lv2 := [some (.ref mo), some (.int (iN set)), some (.int (iN (number + 1))), none, none, none]) ⟨rfl, ⟨rfl, ⟨rfl, trivial⟩⟩⟩ ?_
            exact ((ih _ vc.2).2.1) (number + 1) pl (va_up wg (4000 + sum).toNat false) vc.1 rfl
          · have vc := vc.2 (bI_n0.mp h_10)
            refine g_iconst (q := 118) (v := iN 1) cx dX3_layWeighed_117 rfl rfl ?_
            refine g_goto (q := 122) cx dX3_layWeighed_118 (by decide) ?_
            refine g_zastZ (q := 123) (b := true) (ws2 := [(mo, .inr (2, [.int (iN th), .ref am, .ref ae, .int (iN many), .ref ap, .ref ab, .ref aw, .int (iN coins), .ref ac, .ref an, .ref a0, .ref a1, .ref a2])), (am, .inl (T.2.1 0, 7, .inl (zA masses))), (ap, .inl (T.2.1 0, 7, .inl (zA pl))), (aw, .inl (T.2.1 3, 8001, .inl (zB (va_up wg (4000 + sum).toNat true))))]) cx hrw 3 (by decide) rfl vc.1 rfl dX3_layWeighed_122 rfl ?_
            have vc := vc.2
            refine g_iinc (q := 126) (v := iN (number + 1)) (lv2 := [some (.ref mo), some (.int (iN set)), some (.int (iN (number + 1))), some (.int (iN sum)), some (.int (bI is)), some (.int (iN k))]) cx dX3_layWeighed_123 rfl (iN_add _ _) (by decide) rfl rfl ?_
            refine g_goto (q := 24) cx dX3_layWeighed_126 (by decide) ?_
            refine g_wk (lv2 := [some (.ref mo), some (.int (iN set)), some (.int (iN (number + 1))), none, none, none]) ⟨rfl, ⟨rfl, ⟨rfl, trivial⟩⟩⟩ ?_
            exact ((ih _ vc.2).2.1) (number + 1) pl (va_up wg (4000 + sum).toNat true) vc.1 rfl
      · have vc := vc.2.2.2 h_8
        refine g_iload (q := 55) cx dX3_layWeighed_53 rfl rfl ?_
        refine g_if_eq (q := 58) (tg := 81) cx dX3_layWeighed_55 (by decide) rfl (fun h_11 => ?_) (fun h_11 => ?_)
        · have vc := vc.1 (bI_0.mp h_11)
          refine g_iconst (q := 82) (v := iN 0) cx dX3_layWeighed_81 rfl rfl ?_
          refine g_istore (q := 84) (lv2 := [some (.ref mo), some (.int (iN set)), some (.int (iN number)), some (.int (iN sum)), some (.int (iN 0)), some (.int (iN k))]) cx dX3_layWeighed_82 (by decide) rfl rfl ?_
          refine g_iinc (q := 87) (v := iN (k + 1)) (lv2 := [some (.ref mo), some (.int (iN set)), some (.int (iN number)), some (.int (iN sum)), some (.int (iN 0)), some (.int (iN (k + 1)))]) cx dX3_layWeighed_84 rfl (iN_add _ _) (by decide) rfl rfl ?_
          refine g_goto (q := 44) cx dX3_layWeighed_87 (by decide) ?_
          exact ((ih _ vc.2).2.2) number sum false (k + 1) pl wg vc.1 rfl
        · have vc := vc.2 (bI_n0.mp h_11)
          refine g_aload_n (q := 59) cx dX3_layWeighed_58 rfl rfl ?_
          refine g_get (q := 62) cx k_cX3 0 rfl 4 (by decide) q1074 (Or.inl rfl) rfl dX3_layWeighed_59 rfl ?_
          refine g_iload (q := 64) cx dX3_layWeighed_62 rfl rfl ?_
          refine g_ialdZ (q := 65) cx 2 (by decide) rfl vc.1 dX3_layWeighed_64 rfl ?_
          have vc := vc.2
          refine g_if_eqZ (q := 68) (tg := 77) cx vc.1 dX3_layWeighed_65 (by decide) rfl (fun h_12 => ?_) (fun h_12 => ?_)
          · have vc := vc.2.1 h_12
            refine g_iconst (q := 78) (v := iN 1) cx dX3_layWeighed_77 rfl rfl ?_
            refine g_goto (q := 82) cx dX3_layWeighed_78 (by decide) ?_
            refine g_istore (q := 84) (lv2 := [some (.ref mo), some (.int (iN set)), some (.int (iN number)), some (.int (iN sum)), some (.int (iN 1)), some (.int (iN k))]) cx dX3_layWeighed_82 (by decide) rfl rfl ?_
            refine g_iinc (q := 87) (v := iN (k + 1)) (lv2 := [some (.ref mo), some (.int (iN set)), some (.int (iN number)), some (.int (iN sum)), some (.int (iN 1)), some (.int (iN (k + 1)))]) cx dX3_layWeighed_84 rfl (iN_add _ _) (by decide) rfl rfl ?_
            refine g_goto (q := 44) cx dX3_layWeighed_87 (by decide) ?_
            exact ((ih _ vc.2).2.2) number sum true (k + 1) pl wg vc.1 rfl
          · have vc := vc.2.2 h_12
            refine g_iload_n (q := 69) cx dX3_layWeighed_68 rfl rfl ?_
            refine g_iload (q := 71) cx dX3_layWeighed_69 rfl rfl ?_
            refine g_cSr (q := 74) (As := [.int (iN set), .int (iN k)]) (wr := [(mo, .inr (2, [.int (iN th), .ref am, .ref ae, .int (iN many), .ref ap, .ref ab, .ref aw, .int (iN coins), .ref ac, .ref an, .ref a0, .ref a1, .ref a2])), (am, .inl (T.2.1 0, 7, .inl (zA masses))), (ap, .inl (T.2.1 0, 7, .inl (zA pl))), (aw, .inl (T.2.1 3, 8001, .inl (zB wg)))]) (st := []) cx hST (k_X3_has l hlt T set k (vc.1) (vc.2.1)) q1209 s_X3_has rfl g_perm0 (g_rmB rfl) (Nat.le_of_ble_eq_true rfl) dX3_layWeighed_71 rfl (fun v_ hv_ => ?_)
            have vc := vc.2
            have vc := vc.2
            obtain ⟨b_13, rfl, e_14⟩ := hv_
            subst e_14
            refine g_st (st2 := [.int (bI (set.toNat.testBit k.toNat))]) rfl ?_
            refine g_if_eq (q := 77) (tg := 81) cx dX3_layWeighed_74 (by decide) rfl (fun h_15 => ?_) (fun h_15 => ?_)
            · have vc := vc.1 (bI_0.mp h_15)
              refine g_iconst (q := 82) (v := iN 0) cx dX3_layWeighed_81 rfl rfl ?_
              refine g_istore (q := 84) (lv2 := [some (.ref mo), some (.int (iN set)), some (.int (iN number)), some (.int (iN sum)), some (.int (iN 0)), some (.int (iN k))]) cx dX3_layWeighed_82 (by decide) rfl rfl ?_
              refine g_iinc (q := 87) (v := iN (k + 1)) (lv2 := [some (.ref mo), some (.int (iN set)), some (.int (iN number)), some (.int (iN sum)), some (.int (iN 0)), some (.int (iN (k + 1)))]) cx dX3_layWeighed_84 rfl (iN_add _ _) (by decide) rfl rfl ?_
              refine g_goto (q := 44) cx dX3_layWeighed_87 (by decide) ?_
              exact ((ih _ vc.2).2.2) number sum false (k + 1) pl wg vc.1 rfl
            · have vc := vc.2 (bI_n0.mp h_15)
              refine g_iconst (q := 78) (v := iN 1) cx dX3_layWeighed_77 rfl rfl ?_
              refine g_goto (q := 82) cx dX3_layWeighed_78 (by decide) ?_
              refine g_istore (q := 84) (lv2 := [some (.ref mo), some (.int (iN set)), some (.int (iN number)), some (.int (iN sum)), some (.int (iN 1)), some (.int (iN k))]) cx dX3_layWeighed_82 (by decide) rfl rfl ?_
              refine g_iinc (q := 87) (v := iN (k + 1)) (lv2 := [some (.ref mo), some (.int (iN set)), some (.int (iN number)), some (.int (iN sum)), some (.int (iN 1)), some (.int (iN (k + 1)))]) cx dX3_layWeighed_84 rfl (iN_add _ _) (by decide) rfl rfl ?_
              refine g_goto (q := 44) cx dX3_layWeighed_87 (by decide) ?_
              exact ((ih _ vc.2).2.2) number sum true (k + 1) pl wg vc.1 rfl
  have vc := v0_
  refine g_iconst (q := 1) (v := iN 0) cx dX3_layWeighed_0 rfl rfl ?_
  refine g_istore_n (q := 2) (lv2 := [some (.ref mo), some (.int (iN set)), some (.int (iN 0)), none, none, none]) cx dX3_layWeighed_1 rfl (by decide) rfl rfl ?_
  exact ((key _).1) 0 weighed vc rfl

theorem k_X3_layWeighed (l : Launch) (hlt : l.stackTraces = false) (T : GT) (mo : Nat) (am : Nat) (ae : Nat) (ap : Nat) (ab : Nat) (aw : Nat) (ac : Nat) (an : Nat) (a0 : Nat) (a1 : Nat) (a2 : Nat) (th : Int) (many : Int) (coins : Int) (masses : Nat → Int) (placing : Nat → Int) (weighed : Nat → Bool) (set : Int) (n : Nat) (hp0 : many = n) (hp1 : n ≤ 7) (hp2 : msOK n masses) (hp3 : 0 ≤ set ∧ set < 2147483648) : MW l T yX3_layWeighed cX3_layWeighed 6 none ({ frames := 1, cells := 0, slots := 0, locals := 24 }) [.ref mo, .int (iN set)] [(mo, .inr (2, [.int (iN th), .ref am, .ref ae, .int (iN many), .ref ap, .ref ab, .ref aw, .int (iN coins), .ref ac, .ref an, .ref a0, .ref a1, .ref a2])), (am, .inl (T.2.1 0, 7, .inl (zA masses))), (ap, .inl (T.2.1 0, 7, .inl (zA placing))), (aw, .inl (T.2.1 3, 8001, .inl (zB weighed)))] (fun v_ wn_ => ∃ (placing2 : Nat → Int), ∃ (weighed2 : Nat → Bool), v_ = none ∧ wn_ = [(mo, .inr (2, [.int (iN th), .ref am, .ref ae, .int (iN many), .ref ap, .ref ab, .ref aw, .int (iN coins), .ref ac, .ref an, .ref a0, .ref a1, .ref a2])), (am, .inl (T.2.1 0, 7, .inl (zA masses))), (ap, .inl (T.2.1 0, 7, .inl (zA placing2))), (aw, .inl (T.2.1 3, 8001, .inl (zB weighed2)))] ∧ (wOK masses n set.toNat (3 ^ n) weighed2)) 0 0 := by
  refine w_X3_layWeighed l hlt T mo am ae ap ab aw ac an a0 a1 a2 th many coins masses placing weighed set n (I2 := fun k wg => ∃ j : Nat, j ≤ 8001 ∧ k = j ∧ ∀ i, i < j → wg i = false) (M2 := fun k _ => (9000, 2, 0, (8001 - k).toNat))
    (I24 := fun number pl wg => ∃ j : Nat, j ≤ 3 ^ n ∧ number = j ∧ wOK masses n set.toNat j wg) (M24 := fun number _ _ => ((2187 - number).toNat, 2, 0, 0))
    (I44 := fun number sum is k pl wg => ∃ j i : Nat, j < 3 ^ n ∧ i ≤ n ∧ number = j ∧ k = i ∧ sum = psum masses n j n ∧ is = allow n j set.toNat i ∧ (∃ old, pl = plac n j old) ∧ wOK masses n set.toNat j wg) (M44 := fun number _ _ k _ _ => ((2187 - number).toNat, 1, 0, (7 - k).toNat)) _ ?_ ?_ ?_ ?_
  · exact ⟨0, by omega, rfl, fun i hi => absurd hi (Nat.not_lt_zero _)⟩
  · subst hp0
    rintro k wg ⟨j, hj, rfl, hw⟩
    refine ⟨by omega, fun h => ?_, fun h => ⟨by omega, ⟨j + 1, by omega, rfl, fun i hi => ?_⟩, g_ltI (by omega)⟩⟩
    · have e : j = 8001 := by omega
      subst e
      exact ⟨⟨0, Nat.zero_le _, rfl, fun i hi => by rw [hw i hi]; rfl⟩, g_ltI (by omega)⟩
    · rw [Int.toNat_natCast]
      by_cases g : i = j
      · rw [g, va_up_self]
      · rw [va_up_ne _ _ g]
        exact hw i (by omega)
  · subst hp0
    have h3 := pow3_7 hp1
    rintro number pl wg ⟨j, hj, rfl, hw⟩
    refine ⟨rfl, hp1, by omega, by omega, fun h => ?_, fun h => ⟨rfl, hp1, hp2, by omega, ?_⟩⟩
    · rw [show 3 ^ n = j by omega]
      exact hw
    · rw [Int.toNat_natCast]
      exact ⟨⟨j, 0, by omega, Nat.zero_le _, rfl, rfl, rfl, rfl, ⟨pl, rfl⟩, hw⟩, g_ltI (by omega)⟩
  · subst hp0
    have h3 := pow3_7 hp1
    rintro number sum is k pl wg ⟨j, i, hj, hi, rfl, rfl, rfl, rfl, ⟨old, rfl⟩, hw⟩
    have hs := psum_in (p := j) hp2 hp1
    have nxt : ∀ b : Bool, b = (wsum masses n set.toNat j (psum masses n j n) || allow n j set.toNat n) → wOK masses n set.toNat (j + 1) (va_up wg (4000 + psum masses n j n).toNat b) := by
      intro b hb x hx
      rw [wsum_succ]
      by_cases g : x = (4000 + psum masses n j n).toNat
      · rw [g, va_up_self, hb, show (((4000 + psum masses n j n).toNat : Nat) : Int) - 4000 = psum masses n j n by omega, decide_eq_true rfl, Bool.true_and]
      · rw [va_up_ne _ _ g, hw x hx, decide_eq_false (by omega), Bool.false_and, Bool.or_false]
    refine ⟨by omega, by omega, fun h => ?_, fun h => ?_⟩
    · have e : i = n := by omega
      subst e
      refine ⟨by omega, fun h1 => ⟨by omega, ⟨j + 1, by omega, rfl, nxt true ?_⟩, g_ltI (by omega)⟩, fun h1 => ⟨fun h2 => ⟨by omega, ⟨j + 1, by omega, rfl, nxt false ?_⟩, g_ltI (by omega)⟩, fun h2 => ⟨by omega, ⟨j + 1, by omega, rfl, nxt true ?_⟩, g_ltI (by omega)⟩⟩⟩
      · rw [wOK_at hw (by omega) (by omega)] at h1
        rw [h1]; rfl
      · rw [wOK_at hw (by omega) (by omega)] at h1
        rw [h1, h2]; rfl
      · rw [h2, Bool.or_true]
    · have hpi := plac_in (n := n) (p := j) (old := old) i (by omega)
      have ha := plac_at (n := n) (p := j) (old := old) (k := i) (by omega)
      simp only [Int.toNat_natCast]
      refine ⟨fun h1 => ?_, fun h1 => ⟨by omega, by omega, fun h2 => ?_, fun h2 => ⟨hp3, by omega, fun h3 => ?_, fun h3 => ?_⟩⟩⟩
      · exact ⟨⟨j, i + 1, hj, by omega, rfl, rfl, rfl, by rw [allow_succ, h1]; rfl, ⟨old, rfl⟩, hw⟩, g_ltI (by omega)⟩
      · exact ⟨⟨j, i + 1, hj, by omega, rfl, rfl, rfl, by rw [allow_succ, h1, decide_eq_true (by omega)]; rfl, ⟨old, rfl⟩, hw⟩, g_ltI (by omega)⟩
      · exact ⟨⟨j, i + 1, hj, by omega, rfl, rfl, rfl, by rw [allow_succ, h3, decide_eq_false (by omega), Bool.or_false, Bool.and_false], ⟨old, rfl⟩, hw⟩, g_ltI (by omega)⟩
      · exact ⟨⟨j, i + 1, hj, by omega, rfl, rfl, rfl, by rw [allow_succ, h3, h1]; simp, ⟨old, rfl⟩, hw⟩, g_ltI (by omega)⟩

set_option maxRecDepth 100000 in
set_option maxHeartbeats 4000000 in
theorem w_X3_canWith (l : Launch) (hlt : l.stackTraces = false) (T : GT) (mo : Nat) (am : Nat) (ae : Nat) (ap : Nat) (ab : Nat) (aw : Nat) (ac : Nat) (an : Nat) (a0 : Nat) (a1 : Nat) (a2 : Nat) (th : Int) (many : Int) (coins : Int) (weighed : Nat → Bool) (mass : Int) (more : Int)  (post : Bool → Prop) (v0_ : (0 ≤ (4000 + mass) ∧ (4000 + mass) < 8001) ∧ (((weighed (4000 + mass).toNat) = true → (post true)) ∧ ((weighed (4000 + mass).toNat) = false → ((-2147483648 ≤ more ∧ more < 2147483648) ∧ ((more ≤ 0 → (post false)) ∧ (0 < more → ((-2147483648 ≤ (mass + more) ∧ (mass + more) < 2147483648) ∧ (((decide ((0 : Int) ≤ (mass + more)) && decide ((mass + more) ≤ (4000 : Int))) = false → ((0 ≤ ((4000 + mass) - more) ∧ ((4000 + mass) - more) < 8001) ∧ (((weighed ((4000 + mass) - more).toNat) = false → (post false)) ∧ ((weighed ((4000 + mass) - more).toNat) = true → (post true))))) ∧ ((decide ((0 : Int) ≤ (mass + more)) && decide ((mass + more) ≤ (4000 : Int))) = true → ((0 ≤ ((4000 + mass) + more) ∧ ((4000 + mass) + more) < 8001) ∧ (((weighed ((4000 + mass) + more).toNat) = true → (post true)) ∧ ((weighed ((4000 + mass) + more).toNat) = false → ((0 ≤ ((4000 + mass) - more) ∧ ((4000 + mass) - more) < 8001) ∧ (((weighed ((4000 + mass) - more).toNat) = false → (post false)) ∧ ((weighed ((4000 + mass) - more).toNat) = true → (post true))))))))))))))))  : MR l T yX3_canWith cX3_canWith 4 (some .boolean) ({ frames := 1, cells := 0, slots := 0, locals := 22 }) [.ref mo, .int (iN mass), .int (iN more)] [(mo, .inr (2, [.int (iN th), .ref am, .ref ae, .int (iN many), .ref ap, .ref ab, .ref aw, .int (iN coins), .ref ac, .ref an, .ref a0, .ref a1, .ref a2])), (aw, .inl (T.2.1 3, 8001, .inl (zB weighed)))] (fun v_ => ∃ (b : Bool), v_ = some (.int (bI b)) ∧ post b) := by
  refine MR.start hlt (by decide) (lv0 := [some (.ref mo), some (.int (iN mass)), some (.int (iN more)), none]) rfl (Nat.le_of_ble_eq_true rfl) rfl ?_
  intro p e R s m args below meth c cx hr hST
  have vc := v0_
  refine g_aload_n (q := 1) cx dX3_canWith_0 rfl rfl ?_
  refine g_get (q := 4) cx k_cX3 0 rfl 6 (by decide) q1076 (Or.inl rfl) rfl dX3_canWith_1 rfl ?_
  refine g_sipush (q := 7) (v := iN 4000) cx dX3_canWith_4 (by decide) rfl ?_
  refine g_iload_n (q := 8) cx dX3_canWith_7 rfl rfl ?_
  refine g_iaddZ (q := 9) cx dX3_canWith_8 rfl ?_
  refine g_zaldZ (q := 10) cx 1 (by decide) rfl vc.1 dX3_canWith_9 rfl ?_
  have vc := vc.2
  refine g_istore_n (q := 11) (lv2 := [some (.ref mo), some (.int (iN mass)), some (.int (iN more)), some (.int (bI (weighed (4000 + mass).toNat)))]) cx dX3_canWith_10 rfl (by decide) rfl rfl ?_
  refine g_iload_n (q := 12) cx dX3_canWith_11 rfl rfl ?_
  refine g_if_ne (q := 15) (tg := 62) cx dX3_canWith_12 (by decide) rfl (fun h_1 => ?_) (fun h_1 => ?_)
  · have vc := vc.1 (bI_n0.mp h_1)
    refine g_iconst (q := 63) (v := iN 1) cx dX3_canWith_62 rfl rfl ?_
    refine g_goto (q := 67) cx dX3_canWith_63 (by decide) ?_
    exact g_iretR cx hr (by decide) ⟨true, rfl, vc⟩ dX3_canWith_67
  · have vc := vc.2 (bI_0.mp h_1)
    refine g_iload_n (q := 16) cx dX3_canWith_15 rfl rfl ?_
    refine g_if_leZ (q := 19) (tg := 66) cx vc.1 dX3_canWith_16 (by decide) rfl (fun h_2 => ?_) (fun h_2 => ?_)
    · have vc := vc.2.1 h_2
      refine g_iconst (q := 67) (v := iN 0) cx dX3_canWith_66 rfl rfl ?_
      exact g_iretR cx hr (by decide) ⟨false, rfl, vc⟩ dX3_canWith_67
    · have vc := vc.2.2 h_2
      refine g_iload_n (q := 20) cx dX3_canWith_19 rfl rfl ?_
      refine g_iload_n (q := 21) cx dX3_canWith_20 rfl rfl ?_
      refine g_iaddZ (q := 22) cx dX3_canWith_21 rfl ?_
      refine g_iconst (q := 23) (v := iN 0) cx dX3_canWith_22 rfl rfl ?_
      refine g_sipush (q := 26) (v := iN 4000) cx dX3_canWith_23 (by decide) rfl ?_
      refine g_cSr (q := 29) (As := [.int (iN (mass + more)), .int (iN 0), .int (iN 4000)]) (wr := [(mo, .inr (2, [.int (iN th), .ref am, .ref ae, .int (iN many), .ref ap, .ref ab, .ref aw, .int (iN coins), .ref ac, .ref an, .ref a0, .ref a1, .ref a2])), (aw, .inl (T.2.1 3, 8001, .inl (zB weighed)))]) (st := []) cx hST (k_X3_in l hlt T (mass + more) 0 4000 (vc.1) (by decide) (by decide)) q1119 s_X3_in rfl g_perm0 (g_rmB rfl) (Nat.le_of_ble_eq_true rfl) dX3_canWith_26 rfl (fun v_ hv_ => ?_)
      have vc := vc.2
      obtain ⟨b_3, rfl, e_4⟩ := hv_
      subst e_4
      refine g_st (st2 := [.int (bI (decide ((0 : Int) ≤ (mass + more)) && decide ((mass + more) ≤ (4000 : Int))))]) rfl ?_
      refine g_if_eq (q := 32) (tg := 47) cx dX3_canWith_29 (by decide) rfl (fun h_5 => ?_) (fun h_5 => ?_)
      · have vc := vc.1 (bI_0.mp h_5)
        refine g_aload_n (q := 48) cx dX3_canWith_47 rfl rfl ?_
        refine g_get (q := 51) cx k_cX3 0 rfl 6 (by decide) q1076 (Or.inl rfl) rfl dX3_canWith_48 rfl ?_
        refine g_sipush (q := 54) (v := iN 4000) cx dX3_canWith_51 (by decide) rfl ?_
        refine g_iload_n (q := 55) cx dX3_canWith_54 rfl rfl ?_
        refine g_iaddZ (q := 56) cx dX3_canWith_55 rfl ?_
        refine g_iload_n (q := 57) cx dX3_canWith_56 rfl rfl ?_
        refine g_isubZ (q := 58) cx dX3_canWith_57 rfl ?_
        refine g_zaldZ (q := 59) cx 1 (by decide) rfl vc.1 dX3_canWith_58 rfl ?_
        have vc := vc.2
        refine g_if_eq (q := 62) (tg := 66) cx dX3_canWith_59 (by decide) rfl (fun h_6 => ?_) (fun h_6 => ?_)
        · have vc := vc.1 (bI_0.mp h_6)
          refine g_iconst (q := 67) (v := iN 0) cx dX3_canWith_66 rfl rfl ?_
          exact g_iretR cx hr (by decide) ⟨false, rfl, vc⟩ dX3_canWith_67
        · have vc := vc.2 (bI_n0.mp h_6)
          refine g_iconst (q := 63) (v := iN 1) cx dX3_canWith_62 rfl rfl ?_
          refine g_goto (q := 67) cx dX3_canWith_63 (by decide) ?_
          exact g_iretR cx hr (by decide) ⟨true, rfl, vc⟩ dX3_canWith_67
      · have vc := vc.2 (bI_n0.mp h_5)
        refine g_aload_n (q := 33) cx dX3_canWith_32 rfl rfl ?_
        refine g_get (q := 36) cx k_cX3 0 rfl 6 (by decide) q1076 (Or.inl rfl) rfl dX3_canWith_33 rfl ?_
        refine g_sipush (q := 39) (v := iN 4000) cx dX3_canWith_36 (by decide) rfl ?_
        refine g_iload_n (q := 40) cx dX3_canWith_39 rfl rfl ?_
        refine g_iaddZ (q := 41) cx dX3_canWith_40 rfl ?_
        refine g_iload_n (q := 42) cx dX3_canWith_41 rfl rfl ?_
        refine g_iaddZ (q := 43) cx dX3_canWith_42 rfl ?_
        refine g_zaldZ (q := 44) cx 1 (by decide) rfl vc.1 dX3_canWith_43 rfl ?_
        have vc := vc.2
        refine g_if_ne (q := 47) (tg := 62) cx dX3_canWith_44 (by decide) rfl (fun h_7 => ?_) (fun h_7 => ?_)
        · have vc := vc.1 (bI_n0.mp h_7)
          refine g_iconst (q := 63) (v := iN 1) cx dX3_canWith_62 rfl rfl ?_
          refine g_goto (q := 67) cx dX3_canWith_63 (by decide) ?_
          exact g_iretR cx hr (by decide) ⟨true, rfl, vc⟩ dX3_canWith_67
        · have vc := vc.2 (bI_0.mp h_7)
          refine g_aload_n (q := 48) cx dX3_canWith_47 rfl rfl ?_
          refine g_get (q := 51) cx k_cX3 0 rfl 6 (by decide) q1076 (Or.inl rfl) rfl dX3_canWith_48 rfl ?_
          refine g_sipush (q := 54) (v := iN 4000) cx dX3_canWith_51 (by decide) rfl ?_
          refine g_iload_n (q := 55) cx dX3_canWith_54 rfl rfl ?_
          refine g_iaddZ (q := 56) cx dX3_canWith_55 rfl ?_
          refine g_iload_n (q := 57) cx dX3_canWith_56 rfl rfl ?_
          refine g_isubZ (q := 58) cx dX3_canWith_57 rfl ?_
          refine g_zaldZ (q := 59) cx 1 (by decide) rfl vc.1 dX3_canWith_58 rfl ?_
          have vc := vc.2
          refine g_if_eq (q := 62) (tg := 66) cx dX3_canWith_59 (by decide) rfl (fun h_8 => ?_) (fun h_8 => ?_)
          · have vc := vc.1 (bI_0.mp h_8)
            refine g_iconst (q := 67) (v := iN 0) cx dX3_canWith_66 rfl rfl ?_
            exact g_iretR cx hr (by decide) ⟨false, rfl, vc⟩ dX3_canWith_67
          · have vc := vc.2 (bI_n0.mp h_8)
            refine g_iconst (q := 63) (v := iN 1) cx dX3_canWith_62 rfl rfl ?_
            refine g_goto (q := 67) cx dX3_canWith_63 (by decide) ?_
            exact g_iretR cx hr (by decide) ⟨true, rfl, vc⟩ dX3_canWith_67

theorem k_X3_canWith (l : Launch) (hlt : l.stackTraces = false) (T : GT) (mo : Nat) (am : Nat) (ae : Nat) (ap : Nat) (ab : Nat) (aw : Nat) (ac : Nat) (an : Nat) (a0 : Nat) (a1 : Nat) (a2 : Nat) (th : Int) (many : Int) (coins : Int) (weighed : Nat → Bool) (mass : Int) (more : Int) (hp0 : 1 ≤ mass ∧ mass ≤ 4000) (hp1 : 0 ≤ more ∧ more ≤ 500) : MR l T yX3_canWith cX3_canWith 4 (some .boolean) ({ frames := 1, cells := 0, slots := 0, locals := 22 }) [.ref mo, .int (iN mass), .int (iN more)] [(mo, .inr (2, [.int (iN th), .ref am, .ref ae, .int (iN many), .ref ap, .ref ab, .ref aw, .int (iN coins), .ref ac, .ref an, .ref a0, .ref a1, .ref a2])), (aw, .inl (T.2.1 3, 8001, .inl (zB weighed)))] (fun v_ => ∃ (b : Bool), v_ = some (.int (bI b)) ∧ b = (canW (fun x => weighed (4000 + x).toNat) mass more)) := by
  refine w_X3_canWith l hlt T mo am ae ap ab aw ac an a0 a1 a2 th many coins weighed mass more _ ?_
  have e : canW (fun x => weighed (4000 + x).toNat) mass more = (weighed (4000 + mass).toNat || (decide (0 < more) && ((decide (0 ≤ mass + more ∧ mass + more ≤ 4000) && weighed (4000 + mass + more).toNat) || weighed (4000 + mass - more).toNat))) := by
    unfold canW
    dsimp only
    rw [show 4000 + (mass + more) = 4000 + mass + more by omega, show 4000 + (mass - more) = 4000 + mass - more by omega]
  rw [e]
  refine ⟨by omega, fun h1 => ?_, fun h1 => ⟨by omega, fun h2 => ?_, fun h2 => ⟨by omega, fun h3 => ⟨by omega, fun h4 => ?_, fun h4 => ?_⟩, fun h3 => ⟨by simp only [Bool.and_eq_true, decide_eq_true_eq] at h3; omega, fun h4 => ?_, fun h4 => ⟨by omega, fun h5 => ?_, fun h5 => ?_⟩⟩⟩⟩⟩
  all_goals (try simp only [Bool.and_eq_true, Bool.and_eq_false_iff, decide_eq_true_eq, decide_eq_false_iff_not] at *)
  · rw [h1]; rfl
  · rw [h1, decide_eq_false (by omega)]; rfl
  · rw [h1, h4, decide_eq_false (by omega : ¬ (0 ≤ mass + more ∧ mass + more ≤ 4000))]; simp
  · rw [h4, decide_eq_true h2]; simp
  · rw [h4, decide_eq_true h2, decide_eq_true h3]; simp
  · rw [h1, h4, h5]; simp
  · rw [h5, decide_eq_true h2]; simp

set_option maxRecDepth 100000 in
set_option maxHeartbeats 4000000 in
theorem w_X3_gapWith (l : Launch) (hlt : l.stackTraces = false) (T : GT) (mo : Nat) (am : Nat) (ae : Nat) (ap : Nat) (ab : Nat) (aw : Nat) (ac : Nat) (an : Nat) (a0 : Nat) (a1 : Nat) (a2 : Nat) (th : Int) (many : Int) (coins : Int) (weighed : Nat → Bool) (more : Int) (I2 : Int → Prop) (M2 : Int → g_mu) (post : Int → Prop) (v0_ : I2 1) (v2 : ∀ (mass : Int), I2 mass → (-2147483648 ≤ mass ∧ mass < 2147483648) ∧ ((4000 < mass → (post mass)) ∧ (mass ≤ 4000 → ((1 ≤ mass ∧ mass ≤ 4000) ∧ ((0 ≤ more ∧ more ≤ 500) ∧ (((canW (fun x => weighed (4000 + x).toNat) mass more) = false → (post mass)) ∧ ((canW (fun x => weighed (4000 + x).toNat) mass more) = true → (I2 (mass + 1) ∧ g_lt (M2 (mass + 1)) (M2 mass))))))))) : MR l T yX3_gapWith cX3_gapWith 3 (some .int) ({ frames := 2, cells := 0, slots := 0, locals := 45 }) [.ref mo, .int (iN more)] [(mo, .inr (2, [.int (iN th), .ref am, .ref ae, .int (iN many), .ref ap, .ref ab, .ref aw, .int (iN coins), .ref ac, .ref an, .ref a0, .ref a1, .ref a2])), (aw, .inl (T.2.1 3, 8001, .inl (zB weighed)))] (fun v_ => ∃ (r : Int), v_ = some (.int (iN r)) ∧ post r) := by
  refine MR.start hlt (by decide) (lv0 := [some (.ref mo), some (.int (iN more)), none]) rfl (Nat.le_of_ble_eq_true rfl) rfl ?_
  intro p e R s m args below meth c cx hr hST
  have key : ∀ μ : g_mu, (∀ (mass : Int), I2 mass → M2 mass = μ → G p l e R s m args below meth c 3 T (fun _ => False) (fun _ => True) (MQ below (g_Qr (fun v_ => ∃ (r : Int), v_ = some (.int (iN r)) ∧ post r)) args s 0 0 (fun _ => False)) 0 0 [(mo, .inr (2, [.int (iN th), .ref am, .ref ae, .int (iN many), .ref ap, .ref ab, .ref aw, .int (iN coins), .ref ac, .ref an, .ref a0, .ref a1, .ref a2])), (aw, .inl (T.2.1 3, 8001, .inl (zB weighed)))] [some (.ref mo), some (.int (iN more)), some (.int (iN mass))] 2 []) := by
    refine g_ind (fun μ ih => ?_)
    · intro mass hI hM
      subst hM
      have vc := v2 mass hI
      refine g_iload_n (q := 3) cx dX3_gapWith_2 rfl rfl ?_
      refine g_sipush (q := 6) (v := iN 4000) cx dX3_gapWith_3 (by decide) rfl ?_
      refine g_icmp_gtZ (q := 9) (tg := 24) cx vc.1 (by decide) dX3_gapWith_6 (by decide) rfl (fun h_1 => ?_) (fun h_1 => ?_)
      · have vc := vc.2.1 h_1
        refine g_iload_n (q := 25) cx dX3_gapWith_24 rfl rfl ?_
        exact g_iretR cx hr rfl ⟨mass, rfl, vc⟩ dX3_gapWith_25
      · have vc := vc.2.2 h_1
        refine g_aload_n (q := 10) cx dX3_gapWith_9 rfl rfl ?_
        refine g_iload_n (q := 11) cx dX3_gapWith_10 rfl rfl ?_
        refine g_iload_n (q := 12) cx dX3_gapWith_11 rfl rfl ?_
        refine g_cVr (q := 15) (b := mo) (As := [.int (iN mass), .int (iN more)]) (wr := []) (st := []) cx hST (k_X3_canWith l hlt T mo am ae ap ab aw ac an a0 a1 a2 th many coins weighed mass more (vc.1) (vc.2.1)) q1216 s_X3_canWith rfl 0 rfl rfl g_perm1 (g_rmB rfl) (Nat.le_of_ble_eq_true rfl) dX3_gapWith_12 rfl (fun v_ hv_ => ?_)
        have vc := vc.2
        have vc := vc.2
        obtain ⟨b_2, rfl, e_3⟩ := hv_
        subst e_3
        refine g_st (st2 := [.int (bI (canW (fun x => weighed (4000 + x).toNat) mass more))]) rfl ?_
        refine g_if_eq (q := 18) (tg := 24) cx dX3_gapWith_15 (by decide) rfl (fun h_4 => ?_) (fun h_4 => ?_)
        · have vc := vc.1 (bI_0.mp h_4)
          refine g_iload_n (q := 25) cx dX3_gapWith_24 rfl rfl ?_
          exact g_iretR cx hr rfl ⟨mass, rfl, vc⟩ dX3_gapWith_25
        · have vc := vc.2 (bI_n0.mp h_4)
          refine g_iinc (q := 21) (v := iN (mass + 1)) (lv2 := [some (.ref mo), some (.int (iN more)), some (.int (iN (mass + 1)))]) cx dX3_gapWith_18 rfl (iN_add _ _) (by decide) rfl rfl ?_
          refine g_goto (q := 2) cx dX3_gapWith_21 (by decide) ?_
          exact (ih _ vc.2) (mass + 1) vc.1 rfl
  have vc := v0_
  refine g_iconst (q := 1) (v := iN 1) cx dX3_gapWith_0 rfl rfl ?_
  refine g_istore_n (q := 2) (lv2 := [some (.ref mo), some (.int (iN more)), some (.int (iN 1))]) cx dX3_gapWith_1 rfl (by decide) rfl rfl ?_
  exact (key _) 1 vc rfl

theorem k_X3_gapWith (l : Launch) (hlt : l.stackTraces = false) (T : GT) (mo : Nat) (am : Nat) (ae : Nat) (ap : Nat) (ab : Nat) (aw : Nat) (ac : Nat) (an : Nat) (a0 : Nat) (a1 : Nat) (a2 : Nat) (th : Int) (many : Int) (coins : Int) (weighed : Nat → Bool) (more : Int) (hp0 : 0 ≤ more ∧ more ≤ 500) : MR l T yX3_gapWith cX3_gapWith 3 (some .int) ({ frames := 2, cells := 0, slots := 0, locals := 45 }) [.ref mo, .int (iN more)] [(mo, .inr (2, [.int (iN th), .ref am, .ref ae, .int (iN many), .ref ap, .ref ab, .ref aw, .int (iN coins), .ref ac, .ref an, .ref a0, .ref a1, .ref a2])), (aw, .inl (T.2.1 3, 8001, .inl (zB weighed)))] (fun v_ => ∃ (r : Int), v_ = some (.int (iN r)) ∧ r = ((firstF (fun m => canW (fun x => weighed (4000 + x).toNat) m more) 4000 1 : Nat) : Int)) := by
  refine w_X3_gapWith l hlt T mo am ae ap ab aw ac an a0 a1 a2 th many coins weighed more (I2 := fun mass => ∃ m : Nat, 1 ≤ m ∧ m ≤ 4001 ∧ mass = m ∧ firstF (fun m => canW (fun x => weighed (4000 + x).toNat) m more) (4001 - m) m = firstF (fun m => canW (fun x => weighed (4000 + x).toNat) m more) 4000 1) (M2 := fun mass => (0, 0, 0, (4001 - mass).toNat)) _ ?_ ?_
  · exact ⟨1, by omega, by omega, rfl, rfl⟩
  · rintro mass ⟨m, h1, h2, rfl, hf⟩
    refine ⟨by omega, fun h => ?_, fun h => ⟨by omega, hp0, fun h3 => ?_, fun h3 => ?_⟩⟩
    · rw [← hf, show m = 4001 by omega]
      rfl
    · rw [show 4001 - m = 4001 - (m + 1) + 1 by omega, firstF, h3] at hf
      rw [← hf]; rfl
    · rw [show 4001 - m = 4001 - (m + 1) + 1 by omega, firstF, h3] at hf
      exact ⟨⟨m + 1, by omega, by omega, rfl, hf⟩, g_ltI (by omega)⟩

theorem gapW {ms : Nat → Int} {n set : Nat} {more : Int} {wg : Nat → Bool} (h : wOK ms n set (3 ^ n) wg) (hm : 0 ≤ more ∧ more ≤ 500) : firstF (fun m => canW (fun x => wg (4000 + x).toNat) m more) 4000 1 = pgap ms n set more :=
  firstF_congr _ _ (fun k h1 h2 => canW_congr (by omega) hm (fun x h3 h4 => wOK_at h h3 h4))

set_option maxRecDepth 100000 in
set_option maxHeartbeats 4000000 in
theorem w_X3_gap (l : Launch) (hlt : l.stackTraces = false) (T : GT) (mo : Nat) (am : Nat) (ae : Nat) (ap : Nat) (ab : Nat) (aw : Nat) (ac : Nat) (an : Nat) (a0 : Nat) (a1 : Nat) (a2 : Nat) (th : Int) (many : Int) (coins : Int) (masses : Nat → Int) (placing : Nat → Int) (weighed : Nat → Bool) (n : Nat)  (post : Int → Int → (Nat → Int) → (Nat → Bool) → Prop) (v0_ : (0 ≤ (1 : Int) ∧ (1 : Int) * 2 ^ many.toNat < 2147483648) ∧ ((0 ≤ many ∧ many < 32) ∧ ((many = n) ∧ ((n ≤ 7) ∧ ((msOK n masses) ∧ ((0 ≤ (((1 : Int) * 2 ^ many.toNat) - 1) ∧ (((1 : Int) * 2 ^ many.toNat) - 1) < 2147483648) ∧ (∀ (placing2_1 : Nat → Int) (weighed2_2 : Nat → Bool), (wOK masses n (((1 : Int) * 2 ^ many.toNat) - 1).toNat (3 ^ n) weighed2_2) → post ((firstF (fun m => canW (fun x => weighed2_2 (4000 + x).toNat) m (0 : Int)) 4000 1 : Nat) : Int) 0 placing2_1 weighed2_2)))))))  : MW l T yX3_gap cX3_gap 1 (some .int) ({ frames := 3, cells := 0, slots := 0, locals := 67 }) [.ref mo] [(mo, .inr (2, [.int (iN th), .ref am, .ref ae, .int (iN many), .ref ap, .ref ab, .ref aw, .int (iN coins), .ref ac, .ref an, .ref a0, .ref a1, .ref a2])), (am, .inl (T.2.1 0, 7, .inl (zA masses))), (ap, .inl (T.2.1 0, 7, .inl (zA placing))), (aw, .inl (T.2.1 3, 8001, .inl (zB weighed)))] (fun v_ wn_ => ∃ (r : Int), ∃ (th2 : Int), ∃ (placing2 : Nat → Int), ∃ (weighed2 : Nat → Bool), v_ = some (.int (iN r)) ∧ wn_ = [(mo, .inr (2, [.int (iN th2), .ref am, .ref ae, .int (iN many), .ref ap, .ref ab, .ref aw, .int (iN coins), .ref ac, .ref an, .ref a0, .ref a1, .ref a2])), (am, .inl (T.2.1 0, 7, .inl (zA masses))), (ap, .inl (T.2.1 0, 7, .inl (zA placing2))), (aw, .inl (T.2.1 3, 8001, .inl (zB weighed2)))] ∧ post r th2 placing2 weighed2) 0 0 := by
  refine MW.start hlt (by decide) (lv0 := [some (.ref mo)]) rfl (Nat.le_of_ble_eq_true rfl) rfl ?_
  intro p e R s m args below meth c A cx hr hnm hST hrw
  have vc := v0_
  refine g_aload_n (q := 1) cx dX3_gap_0 rfl rfl ?_
  refine g_iconst (q := 2) (v := iN 0) cx dX3_gap_1 rfl rfl ?_
  refine g_put (q := 5) (ws2 := [(mo, .inr (2, [.int (iN 0), .ref am, .ref ae, .int (iN many), .ref ap, .ref ab, .ref aw, .int (iN coins), .ref ac, .ref an, .ref a0, .ref a1, .ref a2])), (am, .inl (T.2.1 0, 7, .inl (zA masses))), (ap, .inl (T.2.1 0, 7, .inl (zA placing))), (aw, .inl (T.2.1 3, 8001, .inl (zB weighed)))]) cx hrw k_cX3 0 rfl 0 (by decide) q1070 (Or.inl rfl) rfl rfl rfl (Nat.le_of_ble_eq_true rfl) rfl dX3_gap_2 rfl ?_
  refine g_aload_n (q := 6) cx dX3_gap_5 rfl rfl ?_
  refine g_iconst (q := 7) (v := iN 1) cx dX3_gap_6 rfl rfl ?_
  refine g_aload_n (q := 8) cx dX3_gap_7 rfl rfl ?_
  refine g_get (q := 11) cx k_cX3 0 rfl 3 (by decide) q1073 (Or.inl rfl) rfl dX3_gap_8 rfl ?_
  refine g_ishlZ (q := 12) cx vc.1 vc.2.1 dX3_gap_11 rfl ?_
  have vc := vc.2
  have vc := vc.2
  refine g_iconst (q := 13) (v := iN 1) cx dX3_gap_12 rfl rfl ?_
  refine g_isubZ (q := 14) cx dX3_gap_13 rfl ?_
  refine g_cVw (q := 17) (b := mo) (As := [.int (iN (((1 : Int) * 2 ^ many.toNat) - 1))]) (wr := []) (st := []) cx hST hrw (k_X3_layWeighed l hlt T mo am ae ap ab aw ac an a0 a1 a2 0 many coins masses placing weighed (((1 : Int) * 2 ^ many.toNat) - 1) n (vc.1) (vc.2.1) (vc.2.2.1) (vc.2.2.2.1)) q1205 s_X3_layWeighed rfl 0 rfl rfl g_perm1 (g_rmB rfl) (Nat.le_of_ble_eq_true rfl) dX3_gap_14 rfl (fun v_ wn_ hv_ => ?_)
  have vc := vc.2
  have vc := vc.2
  have vc := vc.2
  have vc := vc.2
  obtain ⟨placing2_1, weighed2_2, rfl, rfl, e_3⟩ := hv_
  have e_3 := e_3
  refine g_cs (cells2 := 0) (slots2 := 0) (ws2 := [(mo, .inr (2, [.int (iN 0), .ref am, .ref ae, .int (iN many), .ref ap, .ref ab, .ref aw, .int (iN coins), .ref ac, .ref an, .ref a0, .ref a1, .ref a2])), (am, .inl (T.2.1 0, 7, .inl (zA masses))), (ap, .inl (T.2.1 0, 7, .inl (zA placing2_1))), (aw, .inl (T.2.1 3, 8001, .inl (zB weighed2_2)))]) rfl rfl rfl ?_
  refine g_st (st2 := []) rfl ?_
  have vc := vc placing2_1 weighed2_2 e_3
  refine g_aload_n (q := 18) cx dX3_gap_17 rfl rfl ?_
  refine g_iconst (q := 19) (v := iN 0) cx dX3_gap_18 rfl rfl ?_
  refine g_cVr (q := 22) (b := mo) (As := [.int (iN 0)]) (wr := [(am, .inl (T.2.1 0, 7, .inl (zA masses))), (ap, .inl (T.2.1 0, 7, .inl (zA placing2_1)))]) (st := []) cx hST (k_X3_gapWith l hlt T mo am ae ap ab aw ac an a0 a1 a2 0 many coins weighed2_2 0 (by decide)) q1212 s_X3_gapWith rfl 0 rfl rfl (g_perm [1, 2, 0, 3] rfl rfl) (g_rmB rfl) (Nat.le_of_ble_eq_true rfl) dX3_gap_19 rfl (fun v_ hv_ => ?_)
  obtain ⟨r_4, rfl, e_5⟩ := hv_
  subst e_5
  refine g_st (st2 := [.int (iN ((firstF (fun m => canW (fun x => weighed2_2 (4000 + x).toNat) m (0 : Int)) 4000 1 : Nat) : Int))]) rfl ?_
  exact g_iretW cx hr rfl ⟨((firstF (fun m => canW (fun x => weighed2_2 (4000 + x).toNat) m (0 : Int)) 4000 1 : Nat) : Int), 0, placing2_1, weighed2_2, rfl, rfl, vc⟩ (by first | exact Nat.le_of_ble_eq_true rfl | omega) (by first | exact Nat.le_of_ble_eq_true rfl | omega) dX3_gap_22

theorem k_X3_gap (l : Launch) (hlt : l.stackTraces = false) (T : GT) (mo : Nat) (am : Nat) (ae : Nat) (ap : Nat) (ab : Nat) (aw : Nat) (ac : Nat) (an : Nat) (a0 : Nat) (a1 : Nat) (a2 : Nat) (th : Int) (many : Int) (coins : Int) (masses : Nat → Int) (placing : Nat → Int) (weighed : Nat → Bool) (n : Nat) (hp0 : many = n) (hp1 : n ≤ 7) (hp2 : msOK n masses) : MW l T yX3_gap cX3_gap 1 (some .int) ({ frames := 3, cells := 0, slots := 0, locals := 67 }) [.ref mo] [(mo, .inr (2, [.int (iN th), .ref am, .ref ae, .int (iN many), .ref ap, .ref ab, .ref aw, .int (iN coins), .ref ac, .ref an, .ref a0, .ref a1, .ref a2])), (am, .inl (T.2.1 0, 7, .inl (zA masses))), (ap, .inl (T.2.1 0, 7, .inl (zA placing))), (aw, .inl (T.2.1 3, 8001, .inl (zB weighed)))] (fun v_ wn_ => ∃ (r : Int), ∃ (th2 : Int), ∃ (placing2 : Nat → Int), ∃ (weighed2 : Nat → Bool), v_ = some (.int (iN r)) ∧ wn_ = [(mo, .inr (2, [.int (iN th2), .ref am, .ref ae, .int (iN many), .ref ap, .ref ab, .ref aw, .int (iN coins), .ref ac, .ref an, .ref a0, .ref a1, .ref a2])), (am, .inl (T.2.1 0, 7, .inl (zA masses))), (ap, .inl (T.2.1 0, 7, .inl (zA placing2))), (aw, .inl (T.2.1 3, 8001, .inl (zB weighed2)))] ∧ r = ((pgap masses n (2 ^ n - 1) 0 : Nat) : Int) ∧ th2 = 0) 0 0 := by
  refine w_X3_gap l hlt T mo am ae ap ab aw ac an a0 a1 a2 th many coins masses placing weighed n _ ?_
  subst hp0
  have h2 := pow2_7 hp1
  have e : ((1 : Int) * 2 ^ ((n : Nat) : Int).toNat - 1) = ((2 ^ n - 1 : Nat) : Int) := by
    rw [Int.toNat_natCast, Int.one_mul]
    have : ((2 ^ n : Nat) : Int) = (2 : Int) ^ n := Int.natCast_pow 2 n
    omega
  have e2 : ((1 : Int) * 2 ^ ((n : Nat) : Int).toNat) = ((2 ^ n : Nat) : Int) := by
    rw [Int.toNat_natCast, Int.one_mul]
    exact (Int.natCast_pow 2 n).symm
  rw [e, e2]
  refine ⟨by omega, by omega, rfl, hp1, hp2, by omega, fun pl wg hw => ?_⟩
  rw [Int.toNat_natCast] at hw
  rw [gapW hw (by omega)]
  exact ⟨rfl, rfl⟩

set_option maxRecDepth 100000 in
set_option maxHeartbeats 4000000 in
theorem w_X3_masses (l : Launch) (hlt : l.stackTraces = false) (T : GT) (mo : Nat) (am : Nat) (ae : Nat) (ap : Nat) (ab : Nat) (aw : Nat) (ac : Nat) (an : Nat) (a0 : Nat) (a1 : Nat) (a2 : Nat) (th : Int) (many : Int) (coins : Int) (masses : Nat → Int) (placing : Nat → Int) (weighed : Nat → Bool) (n : Nat) (I21 : Int → Int → Int → (Nat → Int) → (Nat → Bool) → Prop) (M21 : Int → Int → Int → (Nat → Int) → (Nat → Bool) → g_mu) (post : Int → Int → (Nat → Int) → (Nat → Bool) → Prop) (v0_ : (0 ≤ (1 : Int) ∧ (1 : Int) * 2 ^ many.toNat < 2147483648) ∧ ((0 ≤ many ∧ many < 32) ∧ ((many = n) ∧ ((n ≤ 7) ∧ ((msOK n masses) ∧ ((0 ≤ (((1 : Int) * 2 ^ many.toNat) - 1) ∧ (((1 : Int) * 2 ^ many.toNat) - 1) < 2147483648) ∧ (∀ (placing2_3 : Nat → Int) (weighed2_4 : Nat → Bool), (wOK masses n (((1 : Int) * 2 ^ many.toNat) - 1).toNat (3 ^ n) weighed2_4) → I21 0 1 0 placing2_3 weighed2_4))))))) (v21 : ∀ (found : Int) (mass : Int) (t : Int) (pl : Nat → Int) (wg : Nat → Bool), I21 found mass t pl wg → (-2147483648 ≤ mass ∧ mass < 2147483648) ∧ ((4000 < mass → (post found t pl wg)) ∧ (mass ≤ 4000 → ((0 ≤ (4000 + mass) ∧ (4000 + mass) < 8001) ∧ (((wg (4000 + mass).toNat) = false → (I21 (found + 0) (mass + 1) t pl wg ∧ g_lt (M21 (found + 0) (mass + 1) t pl wg) (M21 found mass t pl wg))) ∧ ((wg (4000 + mass).toNat) = true → (I21 (found + 1) (mass + 1) t pl wg ∧ g_lt (M21 (found + 1) (mass + 1) t pl wg) (M21 found mass t pl wg)))))))) : MW l T yX3_masses cX3_masses 3 (some .int) ({ frames := 2, cells := 0, slots := 0, locals := 49 }) [.ref mo] [(mo, .inr (2, [.int (iN th), .ref am, .ref ae, .int (iN many), .ref ap, .ref ab, .ref aw, .int (iN coins), .ref ac, .ref an, .ref a0, .ref a1, .ref a2])), (am, .inl (T.2.1 0, 7, .inl (zA masses))), (ap, .inl (T.2.1 0, 7, .inl (zA placing))), (aw, .inl (T.2.1 3, 8001, .inl (zB weighed)))] (fun v_ wn_ => ∃ (r : Int), ∃ (th2 : Int), ∃ (placing2 : Nat → Int), ∃ (weighed2 : Nat → Bool), v_ = some (.int (iN r)) ∧ wn_ = [(mo, .inr (2, [.int (iN th2), .ref am, .ref ae, .int (iN many), .ref ap, .ref ab, .ref aw, .int (iN coins), .ref ac, .ref an, .ref a0, .ref a1, .ref a2])), (am, .inl (T.2.1 0, 7, .inl (zA masses))), (ap, .inl (T.2.1 0, 7, .inl (zA placing2))), (aw, .inl (T.2.1 3, 8001, .inl (zB weighed2)))] ∧ post r th2 placing2 weighed2) 0 0 := by
  refine MW.start hlt (by decide) (lv0 := [some (.ref mo), none, none]) rfl (Nat.le_of_ble_eq_true rfl) rfl ?_
  intro p e R s m args below meth c A cx hr hnm hST hrw
  have key : ∀ μ : g_mu, (∀ (found : Int) (mass : Int) (t : Int) (pl : Nat → Int) (wg : Nat → Bool), I21 found mass t pl wg → M21 found mass t pl wg = μ → G p l e R s m args below meth c 3 T A A (MQ below (g_Q T (fun v_ wn_ => ∃ (r : Int), ∃ (th2 : Int), ∃ (placing2 : Nat → Int), ∃ (weighed2 : Nat → Bool), v_ = some (.int (iN r)) ∧ wn_ = [(mo, .inr (2, [.int (iN th2), .ref am, .ref ae, .int (iN many), .ref ap, .ref ab, .ref aw, .int (iN coins), .ref ac, .ref an, .ref a0, .ref a1, .ref a2])), (am, .inl (T.2.1 0, 7, .inl (zA masses))), (ap, .inl (T.2.1 0, 7, .inl (zA placing2))), (aw, .inl (T.2.1 3, 8001, .inl (zB weighed2)))] ∧ post r th2 placing2 weighed2) A) args s 0 0 A) 0 0 [(mo, .inr (2, [.int (iN t), .ref am, .ref ae, .int (iN many), .ref ap, .ref ab, .ref aw, .int (iN coins), .ref ac, .ref an, .ref a0, .ref a1, .ref a2])), (am, .inl (T.2.1 0, 7, .inl (zA masses))), (ap, .inl (T.2.1 0, 7, .inl (zA pl))), (aw, .inl (T.2.1 3, 8001, .inl (zB wg)))] [some (.ref mo), some (.int (iN found)), some (.int (iN mass))] 21 []) := by
    refine g_ind (fun μ ih => ?_)
    · intro found mass t pl wg hI hM
      subst hM
      have vc := v21 found mass t pl wg hI
      refine g_iload_n (q := 22) cx dX3_masses_21 rfl rfl ?_
      refine g_sipush (q := 25) (v := iN 4000) cx dX3_masses_22 (by decide) rfl ?_
      refine g_icmp_gtZ (q := 28) (tg := 55) cx vc.1 (by decide) dX3_masses_25 (by decide) rfl (fun h_1 => ?_) (fun h_1 => ?_)
      · have vc := vc.2.1 h_1
        refine g_iload_n (q := 56) cx dX3_masses_55 rfl rfl ?_
        exact g_iretW cx hr rfl ⟨found, t, pl, wg, rfl, rfl, vc⟩ (by first | exact Nat.le_of_ble_eq_true rfl | omega) (by first | exact Nat.le_of_ble_eq_true rfl | omega) dX3_masses_56
      · have vc := vc.2.2 h_1
        refine g_iload_n (q := 29) cx dX3_masses_28 rfl rfl ?_
        refine g_aload_n (q := 30) cx dX3_masses_29 rfl rfl ?_
        refine g_get (q := 33) cx k_cX3 0 rfl 6 (by decide) q1076 (Or.inl rfl) rfl dX3_masses_30 rfl ?_
        refine g_sipush (q := 36) (v := iN 4000) cx dX3_masses_33 (by decide) rfl ?_
        refine g_iload_n (q := 37) cx dX3_masses_36 rfl rfl ?_
        refine g_iaddZ (q := 38) cx dX3_masses_37 rfl ?_
        refine g_zaldZ (q := 39) cx 3 (by decide) rfl vc.1 dX3_masses_38 rfl ?_
        have vc := vc.2
        refine g_if_eq (q := 42) (tg := 46) cx dX3_masses_39 (by decide) rfl (fun h_2 => ?_) (fun h_2 => ?_)
        · have vc := vc.1 (bI_0.mp h_2)
          refine g_iconst (q := 47) (v := iN 0) cx dX3_masses_46 rfl rfl ?_
          refine g_iaddZ (q := 48) cx dX3_masses_47 rfl ?_
          refine g_istore_n (q := 49) (lv2 := [some (.ref mo), some (.int (iN (found + 0))), some (.int (iN mass))]) cx dX3_masses_48 rfl (by decide) rfl rfl ?_
          refine g_iinc (q := 52) (v := iN (mass + 1)) (lv2 := [some (.ref mo), some (.int (iN (found + 0))), some (.int (iN (mass + 1)))]) cx dX3_masses_49 rfl (iN_add _ _) (by decide) rfl rfl ?_
          refine g_goto (q := 21) cx dX3_masses_52 (by decide) ?_
          exact (ih _ vc.2) (found + 0) (mass + 1) t pl wg vc.1 rfl
        · have vc := vc.2 (bI_n0.mp h_2)
          refine g_iconst (q := 43) (v := iN 1) cx dX3_masses_42 rfl rfl ?_
          refine g_goto (q := 47) cx dX3_masses_43 (by decide) ?_
          refine g_iaddZ (q := 48) cx dX3_masses_47 rfl ?_
          refine g_istore_n (q := 49) (lv2 := [some (.ref mo), some (.int (iN (found + 1))), some (.int (iN mass))]) cx dX3_masses_48 rfl (by decide) rfl rfl ?_
          refine g_iinc (q := 52) (v := iN (mass + 1)) (lv2 := [some (.ref mo), some (.int (iN (found + 1))), some (.int (iN (mass + 1)))]) cx dX3_masses_49 rfl (iN_add _ _) (by decide) rfl rfl ?_
          refine g_goto (q := 21) cx dX3_masses_52 (by decide) ?_
          exact (ih _ vc.2) (found + 1) (mass + 1) t pl wg vc.1 rfl
  have vc := v0_
  refine g_aload_n (q := 1) cx dX3_masses_0 rfl rfl ?_
  refine g_iconst (q := 2) (v := iN 0) cx dX3_masses_1 rfl rfl ?_
  refine g_put (q := 5) (ws2 := [(mo, .inr (2, [.int (iN 0), .ref am, .ref ae, .int (iN many), .ref ap, .ref ab, .ref aw, .int (iN coins), .ref ac, .ref an, .ref a0, .ref a1, .ref a2])), (am, .inl (T.2.1 0, 7, .inl (zA masses))), (ap, .inl (T.2.1 0, 7, .inl (zA placing))), (aw, .inl (T.2.1 3, 8001, .inl (zB weighed)))]) cx hrw k_cX3 0 rfl 0 (by decide) q1070 (Or.inl rfl) rfl rfl rfl (Nat.le_of_ble_eq_true rfl) rfl dX3_masses_2 rfl ?_
  refine g_aload_n (q := 6) cx dX3_masses_5 rfl rfl ?_
  refine g_iconst (q := 7) (v := iN 1) cx dX3_masses_6 rfl rfl ?_
  refine g_aload_n (q := 8) cx dX3_masses_7 rfl rfl ?_
  refine g_get (q := 11) cx k_cX3 0 rfl 3 (by decide) q1073 (Or.inl rfl) rfl dX3_masses_8 rfl ?_
  refine g_ishlZ (q := 12) cx vc.1 vc.2.1 dX3_masses_11 rfl ?_
  have vc := vc.2
  have vc := vc.2
  refine g_iconst (q := 13) (v := iN 1) cx dX3_masses_12 rfl rfl ?_
  refine g_isubZ (q := 14) cx dX3_masses_13 rfl ?_
  refine g_cVw (q := 17) (b := mo) (As := [.int (iN (((1 : Int) * 2 ^ many.toNat) - 1))]) (wr := []) (st := []) cx hST hrw (k_X3_layWeighed l hlt T mo am ae ap ab aw ac an a0 a1 a2 0 many coins masses placing weighed (((1 : Int) * 2 ^ many.toNat) - 1) n (vc.1) (vc.2.1) (vc.2.2.1) (vc.2.2.2.1)) q1205 s_X3_layWeighed rfl 0 rfl rfl g_perm1 (g_rmB rfl) (Nat.le_of_ble_eq_true rfl) dX3_masses_14 rfl (fun v_ wn_ hv_ => ?_)
  have vc := vc.2
  have vc := vc.2
  have vc := vc.2
  have vc := vc.2
  obtain ⟨placing2_3, weighed2_4, rfl, rfl, e_5⟩ := hv_
  have e_5 := e_5
  refine g_cs (cells2 := 0) (slots2 := 0) (ws2 := [(mo, .inr (2, [.int (iN 0), .ref am, .ref ae, .int (iN many), .ref ap, .ref ab, .ref aw, .int (iN coins), .ref ac, .ref an, .ref a0, .ref a1, .ref a2])), (am, .inl (T.2.1 0, 7, .inl (zA masses))), (ap, .inl (T.2.1 0, 7, .inl (zA placing2_3))), (aw, .inl (T.2.1 3, 8001, .inl (zB weighed2_4)))]) rfl rfl rfl ?_
  refine g_st (st2 := []) rfl ?_
  have vc := vc placing2_3 weighed2_4 e_5
  refine g_iconst (q := 18) (v := iN 0) cx dX3_masses_17 rfl rfl ?_
  refine g_istore_n (q := 19) (lv2 := [some (.ref mo), some (.int (iN 0)), none]) cx dX3_masses_18 rfl (by decide) rfl rfl ?_
  refine g_iconst (q := 20) (v := iN 1) cx dX3_masses_19 rfl rfl ?_
  refine g_istore_n (q := 21) (lv2 := [some (.ref mo), some (.int (iN 0)), some (.int (iN 1))]) cx dX3_masses_20 rfl (by decide) rfl rfl ?_
  exact (key _) 0 1 0 placing2_3 weighed2_4 vc rfl

theorem k_X3_masses (l : Launch) (hlt : l.stackTraces = false) (T : GT) (mo : Nat) (am : Nat) (ae : Nat) (ap : Nat) (ab : Nat) (aw : Nat) (ac : Nat) (an : Nat) (a0 : Nat) (a1 : Nat) (a2 : Nat) (th : Int) (many : Int) (coins : Int) (masses : Nat → Int) (placing : Nat → Int) (weighed : Nat → Bool) (n : Nat) (hp0 : many = n) (hp1 : n ≤ 7) (hp2 : msOK n masses) : MW l T yX3_masses cX3_masses 3 (some .int) ({ frames := 2, cells := 0, slots := 0, locals := 49 }) [.ref mo] [(mo, .inr (2, [.int (iN th), .ref am, .ref ae, .int (iN many), .ref ap, .ref ab, .ref aw, .int (iN coins), .ref ac, .ref an, .ref a0, .ref a1, .ref a2])), (am, .inl (T.2.1 0, 7, .inl (zA masses))), (ap, .inl (T.2.1 0, 7, .inl (zA placing))), (aw, .inl (T.2.1 3, 8001, .inl (zB weighed)))] (fun v_ wn_ => ∃ (r : Int), ∃ (th2 : Int), ∃ (placing2 : Nat → Int), ∃ (weighed2 : Nat → Bool), v_ = some (.int (iN r)) ∧ wn_ = [(mo, .inr (2, [.int (iN th2), .ref am, .ref ae, .int (iN many), .ref ap, .ref ab, .ref aw, .int (iN coins), .ref ac, .ref an, .ref a0, .ref a1, .ref a2])), (am, .inl (T.2.1 0, 7, .inl (zA masses))), (ap, .inl (T.2.1 0, 7, .inl (zA placing2))), (aw, .inl (T.2.1 3, 8001, .inl (zB weighed2)))] ∧ r = ((cntB (fun m => wsum masses n (2 ^ n - 1) (3 ^ n) ((m : Int) + 1)) 4000 : Nat) : Int) ∧ th2 = 0) 0 0 := by
  refine w_X3_masses l hlt T mo am ae ap ab aw ac an a0 a1 a2 th many coins masses placing weighed n (I21 := fun found mass t pl wg => ∃ j : Nat, j ≤ 4000 ∧ mass = (j : Int) + 1 ∧ t = 0 ∧ wOK masses n (2 ^ n - 1) (3 ^ n) wg ∧ found = (cntB (fun m => wsum masses n (2 ^ n - 1) (3 ^ n) ((m : Int) + 1)) j : Nat)) (M21 := fun _ mass _ _ _ => (0, 0, 0, (4001 - mass).toNat)) _ ?_ ?_
  · subst hp0
    have h2 := pow2_7 hp1
    have e : ((1 : Int) * 2 ^ ((n : Nat) : Int).toNat - 1) = ((2 ^ n - 1 : Nat) : Int) := by
      rw [Int.toNat_natCast, Int.one_mul]
      have : ((2 ^ n : Nat) : Int) = (2 : Int) ^ n := Int.natCast_pow 2 n
      omega
    have e2 : ((1 : Int) * 2 ^ ((n : Nat) : Int).toNat) = ((2 ^ n : Nat) : Int) := by
      rw [Int.toNat_natCast, Int.one_mul]
      exact (Int.natCast_pow 2 n).symm
    rw [e, e2]
    refine ⟨by omega, by omega, rfl, hp1, hp2, by omega, fun pl wg hw => ?_⟩
    rw [Int.toNat_natCast] at hw
    exact ⟨0, by omega, rfl, rfl, hw, rfl⟩
  · rintro found mass t pl wg ⟨j, hj, rfl, rfl, hw, rfl⟩
    have e := wOK_at (x := (j : Int) + 1) hw
    refine ⟨by omega, fun h => ?_, fun h => ⟨by omega, fun h1 => ?_, fun h1 => ?_⟩⟩
    · rw [show j = 4000 by omega]
      exact ⟨rfl, rfl⟩
    · rw [e (by omega) (by omega)] at h1
      exact ⟨⟨j + 1, by omega, rfl, rfl, hw, by simp [cntB, h1]⟩, g_ltI (by omega)⟩
    · rw [e (by omega) (by omega)] at h1
      exact ⟨⟨j + 1, by omega, rfl, rfl, hw, by simp [cntB, h1]⟩, g_ltI (by omega)⟩
