set_option maxRecDepth 100000 in
set_option maxHeartbeats 4000000 in
theorem w_X3_layNeeds (l : Launch) (hlt : l.stackTraces = false) (T : GT) (mo : Nat) (am : Nat) (ae : Nat) (ap : Nat) (ab : Nat) (aw : Nat) (ac : Nat) (an : Nat) (a0 : Nat) (a1 : Nat) (a2 : Nat) (th : Int) (many : Int) (coins : Int) (needs : Nat → Int) (both : Nat → Int) (heavy : Nat → Int) (light : Nat → Int) (cn : Nat) (I2 : Int → (Nat → Int) → Prop) (M2 : Int → (Nat → Int) → g_mu) (I49 : Int → (Nat → Int) → (Nat → Int) → (Nat → Int) → (Nat → Int) → Prop) (M49 : Int → (Nat → Int) → (Nat → Int) → (Nat → Int) → (Nat → Int) → g_mu) (I56 : Int → Int → (Nat → Int) → (Nat → Int) → (Nat → Int) → (Nat → Int) → Prop) (M56 : Int → Int → (Nat → Int) → (Nat → Int) → (Nat → Int) → (Nat → Int) → g_mu) (post : (Nat → Int) → (Nat → Int) → (Nat → Int) → (Nat → Int) → Prop) (v0_ : I2 0 needs) (v2 : ∀ (k : Int) (nd : Nat → Int), I2 k nd → (-2147483648 ≤ k ∧ k < 2147483648) ∧ ((1000 ≤ k → ((0 ≤ (100 * (0 : Int) + 10 * (1 : Int) + (0 : Int)) ∧ (100 * (0 : Int) + 10 * (1 : Int) + (0 : Int)) < 1000) ∧ ((0 ≤ (100 * (0 : Int) + 10 * (0 : Int) + (1 : Int)) ∧ (100 * (0 : Int) + 10 * (0 : Int) + (1 : Int)) < 1000) ∧ (I49 1 (va_up (va_up nd (100 * (0 : Int) + 10 * (1 : Int) + (0 : Int)).toNat 0) (100 * (0 : Int) + 10 * (0 : Int) + (1 : Int)).toNat 0) both heavy light ∧ g_lt (M49 1 (va_up (va_up nd (100 * (0 : Int) + 10 * (1 : Int) + (0 : Int)).toNat 0) (100 * (0 : Int) + 10 * (0 : Int) + (1 : Int)).toNat 0) both heavy light) (M2 k nd))))) ∧ (k < 1000 → ((0 ≤ k ∧ k < 1000) ∧ (I2 (k + 1) (va_up nd k.toNat 99) ∧ g_lt (M2 (k + 1) (va_up nd k.toNat 99)) (M2 k nd)))))) (v49 : ∀ (need : Int) (nd : Nat → Int) (bo : Nat → Int) (he : Nat → Int) (li : Nat → Int), I49 need nd bo he li → (-2147483648 ≤ need ∧ need < 2147483648) ∧ ((4 < need → (post nd bo he li)) ∧ (need ≤ 4 → (I56 need 1 nd bo he li ∧ g_lt (M56 need 1 nd bo he li) (M49 need nd bo he li))))) (v56 : ∀ (need : Int) (k : Int) (nd : Nat → Int) (bo : Nat → Int) (he : Nat → Int) (li : Nat → Int), I56 need k nd bo he li → (-2147483648 ≤ k ∧ k < 2147483648) ∧ ((1000 ≤ k → (I49 (need + 1) nd bo he li ∧ g_lt (M49 (need + 1) nd bo he li) (M56 need k nd bo he li))) ∧ (k < 1000 → ((0 ≤ k ∧ k < 2147483648) ∧ ((0 ≤ k ∧ k < 2147483648) ∧ ((0 ≤ (k / 10) ∧ (k / 10) < 2147483648) ∧ ((0 ≤ k ∧ k < 2147483648) ∧ ((-2147483648 ≤ (((k / 100) + ((k / 10) % 10)) + (k % 10)) ∧ (((k / 100) + ((k / 10) % 10)) + (k % 10)) < 2147483648) ∧ ((-2147483648 ≤ coins ∧ coins < 2147483648) ∧ ((coins < (((k / 100) + ((k / 10) % 10)) + (k % 10)) → (I56 need (k + 1) nd bo he li ∧ g_lt (M56 need (k + 1) nd bo he li) (M56 need k nd bo he li))) ∧ ((((k / 100) + ((k / 10) % 10)) + (k % 10)) ≤ coins → ((0 ≤ k ∧ k < 1000) ∧ ((-2147483648 ≤ (nd k.toNat) ∧ (nd k.toNat) < 2147483648) ∧ ((¬ (nd k.toNat) = 99 → (I56 need (k + 1) nd bo he li ∧ g_lt (M56 need (k + 1) nd bo he li) (M56 need k nd bo he li))) ∧ ((nd k.toNat) = 99 → ((0 ≤ (k / 100) ∧ 0 ≤ ((k / 10) % 10) ∧ 0 ≤ (k % 10) ∧ (k / 100) + ((k / 10) % 10) + (k % 10) ≤ coins ∧ coins ≤ 9) ∧ ((rngN nd) ∧ ((0 ≤ need ∧ need ≤ 99) ∧ (∀ (both2_11 : Nat → Int) (heavy2_12 : Nat → Int) (light2_13 : Nat → Int), ((canDoF nd (coins.toNat - (k / 100).toNat - ((k / 10) % 10).toNat - (k % 10).toNat) (k / 100).toNat ((k / 10) % 10).toNat (k % 10).toNat need) = false → (I56 need (k + 1) nd both2_11 heavy2_12 light2_13 ∧ g_lt (M56 need (k + 1) nd both2_11 heavy2_12 light2_13) (M56 need k nd bo he li))) ∧ ((canDoF nd (coins.toNat - (k / 100).toNat - ((k / 10) % 10).toNat - (k % 10).toNat) (k / 100).toNat ((k / 10) % 10).toNat (k % 10).toNat need) = true → ((0 ≤ k ∧ k < 1000) ∧ (I56 need (k + 1) (va_up nd k.toNat need) both2_11 heavy2_12 light2_13 ∧ g_lt (M56 need (k + 1) (va_up nd k.toNat need) both2_11 heavy2_12 light2_13) (M56 need k nd bo he li))))))))))))))))))))))) : MW l T yX3_layNeeds cX3_layNeeds 6 none ({ frames := 4, cells := 0, slots := 0, locals := 96 }) [.ref mo] [(mo, .inr (2, [.int (iN th), .ref am, .ref ae, .int (iN many), .ref ap, .ref ab, .ref aw, .int (iN coins), .ref ac, .ref an, .ref a0, .ref a1, .ref a2])), (an, .inl (T.2.1 0, 1000, .inl (zA needs))), (a0, .inl (T.2.1 0, 3, .inl (zA both))), (a1, .inl (T.2.1 0, 3, .inl (zA heavy))), (a2, .inl (T.2.1 0, 3, .inl (zA light)))] (fun v_ wn_ => ∃ (needs2 : Nat → Int), ∃ (both2 : Nat → Int), ∃ (heavy2 : Nat → Int), ∃ (light2 : Nat → Int), v_ = none ∧ wn_ = [(mo, .inr (2, [.int (iN th), .ref am, .ref ae, .int (iN many), .ref ap, .ref ab, .ref aw, .int (iN coins), .ref ac, .ref an, .ref a0, .ref a1, .ref a2])), (an, .inl (T.2.1 0, 1000, .inl (zA needs2))), (a0, .inl (T.2.1 0, 3, .inl (zA both2))), (a1, .inl (T.2.1 0, 3, .inl (zA heavy2))), (a2, .inl (T.2.1 0, 3, .inl (zA light2)))] ∧ post needs2 both2 heavy2 light2) 0 0 := by
  refine MW.start hlt (by decide) (lv0 := [some (.ref mo), none, none, none, none, none]) rfl (Nat.le_of_ble_eq_true rfl) rfl ?_
  intro p e R s m args below meth c A cx hr hnm hST hrw
  have key : ∀ μ : g_mu, (∀ (k : Int) (nd : Nat → Int), I2 k nd → M2 k nd = μ → G p l e R s m args below meth c 6 T A A (MQ below (g_Q T (fun v_ wn_ => ∃ (needs2 : Nat → Int), ∃ (both2 : Nat → Int), ∃ (heavy2 : Nat → Int), ∃ (light2 : Nat → Int), v_ = none ∧ wn_ = [(mo, .inr (2, [.int (iN th), .ref am, .ref ae, .int (iN many), .ref ap, .ref ab, .ref aw, .int (iN coins), .ref ac, .ref an, .ref a0, .ref a1, .ref a2])), (an, .inl (T.2.1 0, 1000, .inl (zA needs2))), (a0, .inl (T.2.1 0, 3, .inl (zA both2))), (a1, .inl (T.2.1 0, 3, .inl (zA heavy2))), (a2, .inl (T.2.1 0, 3, .inl (zA light2)))] ∧ post needs2 both2 heavy2 light2) A) args s 0 0 A) 0 0 [(mo, .inr (2, [.int (iN th), .ref am, .ref ae, .int (iN many), .ref ap, .ref ab, .ref aw, .int (iN coins), .ref ac, .ref an, .ref a0, .ref a1, .ref a2])), (an, .inl (T.2.1 0, 1000, .inl (zA nd))), (a0, .inl (T.2.1 0, 3, .inl (zA both))), (a1, .inl (T.2.1 0, 3, .inl (zA heavy))), (a2, .inl (T.2.1 0, 3, .inl (zA light)))] [some (.ref mo), some (.int (iN k)), none, none, none, none] 2 []) ∧ (∀ (need : Int) (nd : Nat → Int) (bo : Nat → Int) (he : Nat → Int) (li : Nat → Int), I49 need nd bo he li → M49 need nd bo he li = μ → G p l e R s m args below meth c 6 T A A (MQ below (g_Q T (fun v_ wn_ => ∃ (needs2 : Nat → Int), ∃ (both2 : Nat → Int), ∃ (heavy2 : Nat → Int), ∃ (light2 : Nat → Int), v_ = none ∧ wn_ = [(mo, .inr (2, [.int (iN th), .ref am, .ref ae, .int (iN many), .ref ap, .ref ab, .ref aw, .int (iN coins), .ref ac, .ref an, .ref a0, .ref a1, .ref a2])), (an, .inl (T.2.1 0, 1000, .inl (zA needs2))), (a0, .inl (T.2.1 0, 3, .inl (zA both2))), (a1, .inl (T.2.1 0, 3, .inl (zA heavy2))), (a2, .inl (T.2.1 0, 3, .inl (zA light2)))] ∧ post needs2 both2 heavy2 light2) A) args s 0 0 A) 0 0 [(mo, .inr (2, [.int (iN th), .ref am, .ref ae, .int (iN many), .ref ap, .ref ab, .ref aw, .int (iN coins), .ref ac, .ref an, .ref a0, .ref a1, .ref a2])), (an, .inl (T.2.1 0, 1000, .inl (zA nd))), (a0, .inl (T.2.1 0, 3, .inl (zA bo))), (a1, .inl (T.2.1 0, 3, .inl (zA he))), (a2, .inl (T.2.1 0, 3, .inl (zA li)))] [some (.ref mo), some (.int (iN need)), none, none, none, none] 49 []) ∧ (∀ (need : Int) (k : Int) (nd : Nat → Int) (bo : Nat → Int) (he : Nat → Int) (li : Nat → Int), I56 need k nd bo he li → M56 need k nd bo he li = μ → G p l e R s m args below meth c 6 T A A (MQ below (g_Q T (fun v_ wn_ => ∃ (needs2 : Nat → Int), ∃ (both2 : Nat → Int), ∃ (heavy2 : Nat → Int), ∃ (light2 : Nat → Int), v_ = none ∧ wn_ = [(mo, .inr (2, [.int (iN th), .ref am, .ref ae, .int (iN many), .ref ap, .ref ab, .ref aw, .int (iN coins), .ref ac, .ref an, .ref a0, .ref a1, .ref a2])), (an, .inl (T.2.1 0, 1000, .inl (zA needs2))), (a0, .inl (T.2.1 0, 3, .inl (zA both2))), (a1, .inl (T.2.1 0, 3, .inl (zA heavy2))), (a2, .inl (T.2.1 0, 3, .inl (zA light2)))] ∧ post needs2 both2 heavy2 light2) A) args s 0 0 A) 0 0 [(mo, .inr (2, [.int (iN th), .ref am, .ref ae, .int (iN many), .ref ap, .ref ab, .ref aw, .int (iN coins), .ref ac, .ref an, .ref a0, .ref a1, .ref a2])), (an, .inl (T.2.1 0, 1000, .inl (zA nd))), (a0, .inl (T.2.1 0, 3, .inl (zA bo))), (a1, .inl (T.2.1 0, 3, .inl (zA he))), (a2, .inl (T.2.1 0, 3, .inl (zA li)))] [some (.ref mo), some (.int (iN need)), some (.int (iN k)), none, none, none] 56 []) := by
    refine g_ind (fun μ ih => ⟨?_, ?_, ?_⟩)
    · intro k nd hI hM
      subst hM
      have vc := v2 k nd hI
      refine g_iload_n (q := 3) cx dX3_layNeeds_2 rfl rfl ?_
      refine g_sipush (q := 6) (v := iN 1000) cx dX3_layNeeds_3 (by decide) rfl ?_
      refine g_icmp_geZ (q := 9) (tg := 23) cx vc.1 (by decide) dX3_layNeeds_6 (by decide) rfl (fun h_1 => ?_) (fun h_1 => ?_)
      · have vc := vc.2.1 h_1
        refine g_aload_n (q := 24) cx dX3_layNeeds_23 rfl rfl ?_
        refine g_get (q := 27) cx k_cX3 0 rfl 9 (by decide) q1079 (Or.inl rfl) rfl dX3_layNeeds_24 rfl ?_
        refine g_iconst (q := 28) (v := iN 0) cx dX3_layNeeds_27 rfl rfl ?_
        refine g_iconst (q := 29) (v := iN 1) cx dX3_layNeeds_28 rfl rfl ?_
        refine g_iconst (q := 30) (v := iN 0) cx dX3_layNeeds_29 rfl rfl ?_
        refine g_cSr (q := 33) (As := [.int (iN 0), .int (iN 1), .int (iN 0)]) (wr := [(mo, .inr (2, [.int (iN th), .ref am, .ref ae, .int (iN many), .ref ap, .ref ab, .ref aw, .int (iN coins), .ref ac, .ref an, .ref a0, .ref a1, .ref a2])), (an, .inl (T.2.1 0, 1000, .inl (zA nd))), (a0, .inl (T.2.1 0, 3, .inl (zA both))), (a1, .inl (T.2.1 0, 3, .inl (zA heavy))), (a2, .inl (T.2.1 0, 3, .inl (zA light)))]) (st := [.ref an]) cx hST (k_X3_at l hlt T 0 1 0) q1041 s_X3_at rfl g_perm0 (g_rmB rfl) (Nat.le_of_ble_eq_true rfl) dX3_layNeeds_30 rfl (fun v_ hv_ => ?_)
        obtain ⟨r_2, rfl, e_3⟩ := hv_
        subst e_3
        refine g_st (st2 := [.int (iN (100 * (0 : Int) + 10 * (1 : Int) + (0 : Int))), .ref an]) rfl ?_
        refine g_iconst (q := 34) (v := iN 0) cx dX3_layNeeds_33 rfl rfl ?_
        refine g_iastZ (q := 35) (ws2 := [(mo, .inr (2, [.int (iN th), .ref am, .ref ae, .int (iN many), .ref ap, .ref ab, .ref aw, .int (iN coins), .ref ac, .ref an, .ref a0, .ref a1, .ref a2])), (an, .inl (T.2.1 0, 1000, .inl (zA (va_up nd (100 * (0 : Int) + 10 * (1 : Int) + (0 : Int)).toNat 0)))), (a0, .inl (T.2.1 0, 3, .inl (zA both))), (a1, .inl (T.2.1 0, 3, .inl (zA heavy))), (a2, .inl (T.2.1 0, 3, .inl (zA light)))]) cx hrw 1 (by decide) rfl vc.1 rfl dX3_layNeeds_34 rfl ?_
        have vc := vc.2
        refine g_aload_n (q := 36) cx dX3_layNeeds_35 rfl rfl ?_
        refine g_get (q := 39) cx k_cX3 0 rfl 9 (by decide) q1079 (Or.inl rfl) rfl dX3_layNeeds_36 rfl ?_
        refine g_iconst (q := 40) (v := iN 0) cx dX3_layNeeds_39 rfl rfl ?_
        refine g_iconst (q := 41) (v := iN 0) cx dX3_layNeeds_40 rfl rfl ?_
        refine g_iconst (q := 42) (v := iN 1) cx dX3_layNeeds_41 rfl rfl ?_
        refine g_cSr (q := 45) (As := [.int (iN 0), .int (iN 0), .int (iN 1)]) (wr := [(mo, .inr (2, [.int (iN th), .ref am, .ref ae, .int (iN many), .ref ap, .ref ab, .ref aw, .int (iN coins), .ref ac, .ref an, .ref a0, .ref a1, .ref a2])), (an, .inl (T.2.1 0, 1000, .inl (zA (va_up nd (100 * (0 : Int) + 10 * (1 : Int) + (0 : Int)).toNat 0)))), (a0, .inl (T.2.1 0, 3, .inl (zA both))), (a1, .inl (T.2.1 0, 3, .inl (zA heavy))), (a2, .inl (T.2.1 0, 3, .inl (zA light)))]) (st := [.ref an]) cx hST (k_X3_at l hlt T 0 0 1) q1041 s_X3_at rfl g_perm0 (g_rmB rfl) (Nat.le_of_ble_eq_true rfl) dX3_layNeeds_42 rfl (fun v_ hv_ => ?_)
        obtain ⟨r_4, rfl, e_5⟩ := hv_
        subst e_5
        refine g_st (st2 := [.int (iN (100 * (0 : Int) + 10 * (0 : Int) + (1 : Int))), .ref an]) rfl ?_
        refine g_iconst (q := 46) (v := iN 0) cx dX3_layNeeds_45 rfl rfl ?_
        refine g_iastZ (q := 47) (ws2 := [(mo, .inr (2, [.int (iN th), .ref am, .ref ae, .int (iN many), .ref ap, .ref ab, .ref aw, .int (iN coins), .ref ac, .ref an, .ref a0, .ref a1, .ref a2])), (an, .inl (T.2.1 0, 1000, .inl (zA (va_up (va_up nd (100 * (0 : Int) + 10 * (1 : Int) + (0 : Int)).toNat 0) (100 * (0 : Int) + 10 * (0 : Int) + (1 : Int)).toNat 0)))), (a0, .inl (T.2.1 0, 3, .inl (zA both))), (a1, .inl (T.2.1 0, 3, .inl (zA heavy))), (a2, .inl (T.2.1 0, 3, .inl (zA light)))]) cx hrw 1 (by decide) rfl vc.1 rfl dX3_layNeeds_46 rfl ?_
        have vc := vc.2
        refine g_iconst (q := 48) (v := iN 1) cx dX3_layNeeds_47 rfl rfl ?_
        refine g_istore_n (q := 49) (lv2 := [some (.ref mo), some (.int (iN 1)), none, none, none, none]) cx dX3_layNeeds_48 rfl (by decide) rfl rfl ?_
        exact ((ih _ vc.2).2.1) 1 (va_up (va_up nd (100 * (0 : Int) + 10 * (1 : Int) + (0 : Int)).toNat 0) (100 * (0 : Int) + 10 * (0 : Int) + (1 : Int)).toNat 0) both heavy light vc.1 rfl
      · have vc := vc.2.2 h_1
        refine g_aload_n (q := 10) cx dX3_layNeeds_9 rfl rfl ?_
        refine g_get (q := 13) cx k_cX3 0 rfl 9 (by decide) q1079 (Or.inl rfl) rfl dX3_layNeeds_10 rfl ?_
        refine g_iload_n (q := 14) cx dX3_layNeeds_13 rfl rfl ?_
        refine g_bipush (q := 16) (v := iN 99) cx dX3_layNeeds_14 (by decide) rfl ?_
        refine g_iastZ (q := 17) (ws2 := [(mo, .inr (2, [.int (iN th), .ref am, .ref ae, .int (iN many), .ref ap, .ref ab, .ref aw, .int (iN coins), .ref ac, .ref an, .ref a0, .ref a1, .ref a2])), (an, .inl (T.2.1 0, 1000, .inl (zA (va_up nd k.toNat 99)))), (a0, .inl (T.2.1 0, 3, .inl (zA both))), (a1, .inl (T.2.1 0, 3, .inl (zA heavy))), (a2, .inl (T.2.1 0, 3, .inl (zA light)))]) cx hrw 1 (by decide) rfl vc.1 rfl dX3_layNeeds_16 rfl ?_
        have vc := vc.2
        refine g_iinc (q := 20) (v := iN (k + 1)) (lv2 := [some (.ref mo), some (.int (iN (k + 1))), none, none, none, none]) cx dX3_layNeeds_17 rfl (iN_add _ _) (by decide) rfl rfl ?_
        refine g_goto (q := 2) cx dX3_layNeeds_20 (by decide) ?_
        exact ((ih _ vc.2).1) (k + 1) (va_up nd k.toNat 99) vc.1 rfl
    · intro need nd bo he li hI hM
      subst hM
      have vc := v49 need nd bo he li hI
      refine g_iload_n (q := 50) cx dX3_layNeeds_49 rfl rfl ?_
      refine g_iconst (q := 51) (v := iN 4) cx dX3_layNeeds_50 rfl rfl ?_
      refine g_icmp_gtZ (q := 54) (tg := 140) cx vc.1 (by decide) dX3_layNeeds_51 (by decide) rfl (fun h_6 => ?_) (fun h_6 => ?_)
      · have vc := vc.2.1 h_6
        exact g_vretW cx hr ⟨nd, bo, he, li, rfl, rfl, vc⟩ (by first | exact Nat.le_of_ble_eq_true rfl | omega) (by first | exact Nat.le_of_ble_eq_true rfl | omega) dX3_layNeeds_140
      · have vc := vc.2.2 h_6
        refine g_iconst (q := 55) (v := iN 1) cx dX3_layNeeds_54 rfl rfl ?_
        refine g_istore_n (q := 56) (lv2 := [some (.ref mo), some (.int (iN need)), some (.int (iN 1)), none, none, none]) cx dX3_layNeeds_55 rfl (by decide) rfl rfl ?_
        exact ((ih _ vc.2).2.2) need 1 nd bo he li vc.1 rfl
    · intro need k nd bo he li hI hM
      subst hM
      have vc := v56 need k nd bo he li hI
      refine g_iload_n (q := 57) cx dX3_layNeeds_56 rfl rfl ?_
      refine g_sipush (q := 60) (v := iN 1000) cx dX3_layNeeds_57 (by decide) rfl ?_
      refine g_icmp_geZ (q := 63) (tg := 134) cx vc.1 (by decide) dX3_layNeeds_60 (by decide) rfl (fun h_7 => ?_) (fun h_7 => ?_)
      · have vc := vc.2.1 h_7
        refine g_iinc (q := 137) (v := iN (need + 1)) (lv2 := [some (.ref mo), some (.int (iN (need + 1))), some (.int (iN k)), none, none, none]) cx dX3_layNeeds_134 rfl (iN_add _ _) (by decide) rfl rfl ?_
        refine g_goto (q := 49) cx dX3_layNeeds_137 (by decide) ?_
        refine g_wk (lv2 := [some (.ref mo), some (.int (iN (need + 1))), none, none, none, none]) ⟨rfl, ⟨rfl, trivial⟩⟩ ?_
        exact ((ih _ vc.2).2.1) (need + 1) nd bo he li vc.1 rfl
      · have vc := vc.2.2 h_7
        refine g_iload_n (q := 64) cx dX3_layNeeds_63 rfl rfl ?_
        refine g_bipush (q := 66) (v := iN 100) cx dX3_layNeeds_64 (by decide) rfl ?_
        refine g_idivZ (q := 67) cx vc.1 (by decide) dX3_layNeeds_66 rfl ?_
        have vc := vc.2
        refine g_istore_n (q := 68) (lv2 := [some (.ref mo), some (.int (iN need)), some (.int (iN k)), some (.int (iN (k / 100))), none, none]) cx dX3_layNeeds_67 rfl (by decide) rfl rfl ?_
        refine g_iload_n (q := 69) cx dX3_layNeeds_68 rfl rfl ?_
        refine g_bipush (q := 71) (v := iN 10) cx dX3_layNeeds_69 (by decide) rfl ?_
        refine g_idivZ (q := 72) cx vc.1 (by decide) dX3_layNeeds_71 rfl ?_
        have vc := vc.2
        refine g_bipush (q := 74) (v := iN 10) cx dX3_layNeeds_72 (by decide) rfl ?_
        refine g_iremZ (q := 75) cx vc.1 (by decide) dX3_layNeeds_74 rfl ?_
        have vc := vc.2
        refine g_istore (q := 77) (lv2 := [some (.ref mo), some (.int (iN need)), some (.int (iN k)), some (.int (iN (k / 100))), some (.int (iN ((k / 10) % 10))), none]) cx dX3_layNeeds_75 (by decide) rfl rfl ?_
        refine g_iload_n (q := 78) cx dX3_layNeeds_77 rfl rfl ?_
        refine g_bipush (q := 80) (v := iN 10) cx dX3_layNeeds_78 (by decide) rfl ?_
        refine g_iremZ (q := 81) cx vc.1 (by decide) dX3_layNeeds_80 rfl ?_
        have vc := vc.2
        refine g_istore (q := 83) (lv2 := [some (.ref mo), some (.int (iN need)), some (.int (iN k)), some (.int (iN (k / 100))), some (.int (iN ((k / 10) % 10))), some (.int (iN (k % 10)))]) cx dX3_layNeeds_81 (by decide) rfl rfl ?_
        refine g_iload_n (q := 84) cx dX3_layNeeds_83 rfl rfl ?_
        refine g_iload (q := 86) cx dX3_layNeeds_84 rfl rfl ?_
        refine g_iaddZ (q := 87) cx dX3_layNeeds_86 rfl ?_
        refine g_iload (q := 89) cx dX3_layNeeds_87 rfl rfl ?_
        refine g_iaddZ (q := 90) cx dX3_layNeeds_89 rfl ?_
        refine g_aload_n (q := 91) cx dX3_layNeeds_90 rfl rfl ?_
        refine g_get (q := 94) cx k_cX3 0 rfl 7 (by decide) q1077 (Or.inl rfl) rfl dX3_layNeeds_91 rfl ?_
        refine g_icmp_gtZ (q := 97) (tg := 128) cx vc.1 vc.2.1 dX3_layNeeds_94 (by decide) rfl (fun h_8 => ?_) (fun h_8 => ?_)
        · have vc := vc.2.2.1 h_8
          refine g_iinc (q := 131) (v := iN (k + 1)) (lv2 := [some (.ref mo), some (.int (iN need)), some (.int (iN (k + 1))), some (.int (iN (k / 100))), some (.int (iN ((k / 10) % 10))), some (.int (iN (k % 10)))]) cx dX3_layNeeds_128 rfl (iN_add _ _) (by decide) rfl rfl ?_
          refine g_goto (q := 56) cx dX3_layNeeds_131 (by decide) ?_
          refine g_wk (lv2 := [some (.ref mo), some (.int (iN need)), some (.int (iN (k + 1))), none, none, none]) ⟨rfl, ⟨rfl, ⟨rfl, trivial⟩⟩⟩ ?_
          exact ((ih _ vc.2).2.2) need (k + 1) nd bo he li vc.1 rfl
        · have vc := vc.2.2.2 h_8
          refine g_aload_n (q := 98) cx dX3_layNeeds_97 rfl rfl ?_
          refine g_get (q := 101) cx k_cX3 0 rfl 9 (by decide) q1079 (Or.inl rfl) rfl dX3_layNeeds_98 rfl ?_
          refine g_iload_n (q := 102) cx dX3_layNeeds_101 rfl rfl ?_
          refine g_ialdZ (q := 103) cx 1 (by decide) rfl vc.1 dX3_layNeeds_102 rfl ?_
          have vc := vc.2
          refine g_bipush (q := 105) (v := iN 99) cx dX3_layNeeds_103 (by decide) rfl ?_
          refine g_icmp_neZ (q := 108) (tg := 128) cx vc.1 (by decide) dX3_layNeeds_105 (by decide) rfl (fun h_9 => ?_) (fun h_9 => ?_)
          · have vc := vc.2.1 h_9
            refine g_iinc (q := 131) (v := iN (k + 1)) (lv2 := [some (.ref mo), some (.int (iN need)), some (.int (iN (k + 1))), some (.int (iN (k / 100))), some (.int (iN ((k / 10) % 10))), some (.int (iN (k % 10)))]) cx dX3_layNeeds_128 rfl (iN_add _ _) (by decide) rfl rfl ?_
            refine g_goto (q := 56) cx dX3_layNeeds_131 (by decide) ?_
            refine g_wk (lv2 := [some (.ref mo), some (.int (iN need)), some (.int (iN (k + 1))), none, none, none]) ⟨rfl, ⟨rfl, ⟨rfl, trivial⟩⟩⟩ ?_
            exact ((ih _ vc.2).2.2) need (k + 1) nd bo he li vc.1 rfl
          · have vc := vc.2.2 h_9
            refine g_aload_n (q := 109) cx dX3_layNeeds_108 rfl rfl ?_
            refine g_iload_n (q := 110) cx dX3_layNeeds_109 rfl rfl ?_
            refine g_iload (q := 112) cx dX3_layNeeds_110 rfl rfl ?_
            refine g_iload (q := 114) cx dX3_layNeeds_112 rfl rfl ?_
            refine g_iload_n (q := 115) cx dX3_layNeeds_114 rfl rfl ?_
            refine g_cVw (q := 118) (b := mo) (As := [.int (iN (k / 100)), .int (iN ((k / 10) % 10)), .int (iN (k % 10)), .int (iN need)]) (wr := []) (st := []) cx hST hrw (k_X3_canDo l hlt T mo am ae ap ab aw ac an a0 a1 a2 th many coins nd bo he li (k / 100) ((k / 10) % 10) (k % 10) need (vc.1) (vc.2.1) (vc.2.2.1)) q1044 s_X3_canDo rfl 0 rfl rfl g_perm1 (g_rmB rfl) (Nat.le_of_ble_eq_true rfl) dX3_layNeeds_115 rfl (fun v_ wn_ hv_ => ?_)
            have vc := vc.2
            have vc := vc.2
            have vc := vc.2
            obtain ⟨b2_10, both2_11, heavy2_12, light2_13, rfl, rfl, e_14⟩ := hv_
            subst e_14
            refine g_cs (cells2 := 0) (slots2 := 0) (ws2 := [(mo, .inr (2, [.int (iN th), .ref am, .ref ae, .int (iN many), .ref ap, .ref ab, .ref aw, .int (iN coins), .ref ac, .ref an, .ref a0, .ref a1, .ref a2])), (an, .inl (T.2.1 0, 1000, .inl (zA nd))), (a0, .inl (T.2.1 0, 3, .inl (zA both2_11))), (a1, .inl (T.2.1 0, 3, .inl (zA heavy2_12))), (a2, .inl (T.2.1 0, 3, .inl (zA light2_13)))]) rfl rfl rfl ?_
            refine g_st (st2 := [.int (bI (canDoF nd (coins.toNat - (k / 100).toNat - ((k / 10) % 10).toNat - (k % 10).toNat) (k / 100).toNat ((k / 10) % 10).toNat (k % 10).toNat need))]) rfl ?_
            have vc := vc both2_11 heavy2_12 light2_13 
            refine g_if_eq (q := 121) (tg := 128) cx dX3_layNeeds_118 (by decide) rfl (fun h_15 => ?_) (fun h_15 => ?_)
            · have vc := vc.1 (bI_0.mp h_15)
              refine g_iinc (q := 131) (v := iN (k + 1)) (lv2 := [some (.ref mo), some (.int (iN need)), some (.int (iN (k + 1))), some (.int (iN (k / 100))), some (.int (iN ((k / 10) % 10))), some (.int (iN (k % 10)))]) cx dX3_layNeeds_128 rfl (iN_add _ _) (by decide) rfl rfl ?_
              refine g_goto (q := 56) cx dX3_layNeeds_131 (by decide) ?_
              refine g_wk (lv2 := [some (.ref mo), some (.int (iN need)), some (.int (iN (k + 1))), none, none, none]) ⟨rfl, ⟨rfl, ⟨rfl, trivial⟩⟩⟩ ?_
              exact ((ih _ vc.2).2.2) need (k + 1) nd both2_11 heavy2_12 light2_13 vc.1 rfl
            · have vc := vc.2 (bI_n0.mp h_15)
              refine g_aload_n (q := 122) cx dX3_layNeeds_121 rfl rfl ?_
              refine g_get (q := 125) cx k_cX3 0 rfl 9 (by decide) q1079 (Or.inl rfl) rfl dX3_layNeeds_122 rfl ?_
              refine g_iload_n (q := 126) cx dX3_layNeeds_125 rfl rfl ?_
              refine g_iload_n (q := 127) cx dX3_layNeeds_126 rfl rfl ?_
              refine g_iastZ (q := 128) (ws2 := [(mo, .inr (2, [.int (iN th), .ref am, .ref ae, .int (iN many), .ref ap, .ref ab, .ref aw, .int (iN coins), .ref ac, .ref an, .ref a0, .ref a1, .ref a2])), (an, .inl (T.2.1 0, 1000, .inl (zA (va_up nd k.toNat need)))), (a0, .inl (T.2.1 0, 3, .inl (zA both2_11))), (a1, .inl (T.2.1 0, 3, .inl (zA heavy2_12))), (a2, .inl (T.2.1 0, 3, .inl (zA light2_13)))]) cx hrw 1 (by decide) rfl vc.1 rfl dX3_layNeeds_127 rfl ?_
              have vc := vc.2
              refine g_iinc (q := 131) (v := iN (k + 1)) (lv2 := [some (.ref mo), some (.int (iN need)), some (.int (iN (k + 1))), some (.int (iN (k / 100))), some (.int (iN ((k / 10) % 10))), some (.int (iN (k % 10)))]) cx dX3_layNeeds_128 rfl (iN_add _ _) (by decide) rfl rfl ?_
              refine g_goto (q := 56) cx dX3_layNeeds_131 (by decide) ?_
              refine g_wk (lv2 := [some (.ref mo), some (.int (iN need)), some (.int (iN (k + 1))), none, none, none]) ⟨rfl, ⟨rfl, ⟨rfl, trivial⟩⟩⟩ ?_
              exact ((ih _ vc.2).2.2) need (k + 1) (va_up nd k.toNat need) both2_11 heavy2_12 light2_13 vc.1 rfl
  have vc := v0_
  refine g_iconst (q := 1) (v := iN 0) cx dX3_layNeeds_0 rfl rfl ?_
  refine g_istore_n (q := 2) (lv2 := [some (.ref mo), some (.int (iN 0)), none, none, none, none]) cx dX3_layNeeds_1 rfl (by decide) rfl rfl ?_
  exact ((key _).1) 0 needs vc rfl

theorem k_X3_layNeeds (l : Launch) (hlt : l.stackTraces = false) (T : GT) (mo : Nat) (am : Nat) (ae : Nat) (ap : Nat) (ab : Nat) (aw : Nat) (ac : Nat) (an : Nat) (a0 : Nat) (a1 : Nat) (a2 : Nat) (th : Int) (many : Int) (coins : Int) (needs : Nat → Int) (both : Nat → Int) (heavy : Nat → Int) (light : Nat → Int) (cn : Nat) (hp0 : coins = cn) (hp1 : 3 ≤ cn ∧ cn ≤ 9) : MW l T yX3_layNeeds cX3_layNeeds 6 none ({ frames := 4, cells := 0, slots := 0, locals := 96 }) [.ref mo] [(mo, .inr (2, [.int (iN th), .ref am, .ref ae, .int (iN many), .ref ap, .ref ab, .ref aw, .int (iN coins), .ref ac, .ref an, .ref a0, .ref a1, .ref a2])), (an, .inl (T.2.1 0, 1000, .inl (zA needs))), (a0, .inl (T.2.1 0, 3, .inl (zA both))), (a1, .inl (T.2.1 0, 3, .inl (zA heavy))), (a2, .inl (T.2.1 0, 3, .inl (zA light)))] (fun v_ wn_ => ∃ (needs2 : Nat → Int), ∃ (both2 : Nat → Int), ∃ (heavy2 : Nat → Int), ∃ (light2 : Nat → Int), v_ = none ∧ wn_ = [(mo, .inr (2, [.int (iN th), .ref am, .ref ae, .int (iN many), .ref ap, .ref ab, .ref aw, .int (iN coins), .ref ac, .ref an, .ref a0, .ref a1, .ref a2])), (an, .inl (T.2.1 0, 1000, .inl (zA needs2))), (a0, .inl (T.2.1 0, 3, .inl (zA both2))), (a1, .inl (T.2.1 0, 3, .inl (zA heavy2))), (a2, .inl (T.2.1 0, 3, .inl (zA light2)))] ∧ (∀ x, x < 1000 → needs2 x = ndT cn x)) 0 0 := by
  refine w_X3_layNeeds l hlt T mo am ae ap ab aw ac an a0 a1 a2 th many coins needs both heavy light cn (I2 := fun k nd => ∃ j : Nat, j ≤ 1000 ∧ k = j ∧ ∀ x, x < j → nd x = 99) (M2 := fun k _ => (9, 9, 0, (1000 - k).toNat))
    (I49 := fun need nd bo he li => ∃ w : Nat, 1 ≤ w ∧ w ≤ 5 ∧ need = w ∧ stgOK cn w 1 nd) (M49 := fun need _ _ _ _ => ((5 - need).toNat, 2, 0, 0))
    (I56 := fun need k nd bo he li => ∃ w j : Nat, 1 ≤ w ∧ w ≤ 4 ∧ 1 ≤ j ∧ j ≤ 1000 ∧ need = w ∧ k = j ∧ stgOK cn w j nd) (M56 := fun need k _ _ _ _ => ((5 - need).toNat, 1, 0, (1000 - k).toNat)) _ ?_ ?_ ?_ ?_
  · exact ⟨0, by omega, rfl, fun x hx => absurd hx (Nat.not_lt_zero _)⟩
  · rintro k nd ⟨j, hj, rfl, hx⟩
    refine ⟨by omega, fun h => ⟨by omega, by omega, ⟨1, by omega, by omega, rfl, stg_first hp1.1 (fun x h2 => hx x (by omega))⟩, g_ltI (by omega)⟩, fun h => ⟨by omega, ⟨j + 1, by omega, rfl, fun x h2 => ?_⟩, g_ltI (by omega)⟩⟩
    rw [Int.toNat_natCast]
    by_cases g : x = j
    · rw [g, va_up_self]
    · rw [va_up_ne _ _ g]
      exact hx x (by omega)
  · rintro need nd bo he li ⟨w, h1, h2, rfl, hs⟩
    refine ⟨by omega, fun h => ?_, fun h => ⟨⟨w, 1, h1, by omega, by omega, by omega, rfl, rfl, hs⟩, g_ltI (by omega)⟩⟩
    have e : w = 5 := by omega
    subst e
    exact stg_last hs
  · subst hp0
    rintro need k nd bo he li ⟨w, j, h1, h2, h3, h4, rfl, rfl, hs⟩
    have hr := stg_rng hs
    have m1 : ∀ z : Nat, g_lt ((5 - (w : Int)).toNat, 1, 0, (1000 - ((j : Int) + 1)).toNat) ((5 - (w : Int)).toNat, 1, 0, (1000 - (j : Int)).toNat) ∨ 1000 ≤ j := fun z => by
      rcases Nat.lt_or_ge j 1000 with g | g
      · exact Or.inl (g_ltI (by omega))
      · exact Or.inr g
    have hds : dsum j = j / 100 + j / 10 % 10 + j % 10 := rfl
    simp only [zc1, zc2, zc3, Int.toNat_natCast]
    have zz : ((j : Int) / 10) = ((j / 10 : Nat) : Int) := rfl
    simp only [zz]
    refine ⟨by omega, fun h => ⟨⟨w + 1, by omega, by omega, rfl, stg_next (by rw [show 1000 = j by omega]; exact hs)⟩, g_ltI (by omega)⟩, fun h => ?_⟩
    have hj9 : j < 1000 := by omega
    have hm := (m1 0).resolve_right (by omega)
    have hrj := hr j hj9
    refine ⟨by omega, by omega, by omega, by omega, by omega, by omega, fun g1 => ⟨⟨w, j + 1, h1, h2, by omega, by omega, rfl, rfl, stg_keep hs (fun z => ?_)⟩, hm⟩, fun g1 => ⟨by omega, by omega, fun g2 => ⟨⟨w, j + 1, h1, h2, by omega, by omega, rfl, rfl, stg_keep hs (fun z => ?_)⟩, hm⟩, fun g2 => ⟨by omega, hr, by omega, ?_⟩⟩⟩
    · omega
    · intro h9
      have := hs j hj9
      rw [if_neg (by omega)] at this
      exact g2 this
    · rw [canDo_k hp1 hs ⟨h1, h2⟩ ⟨h3, hj9⟩ (by omega) g2]
      refine fun bo2 he2 li2 => ⟨fun g3 => ⟨⟨w, j + 1, h1, h2, by omega, by omega, rfl, rfl, stg_keep hs (fun z => of_decide_eq_false g3)⟩, hm⟩, fun g3 => ⟨by omega, ⟨w, j + 1, h1, h2, by omega, by omega, rfl, rfl, stg_put hs ⟨h3, by omega⟩ (of_decide_eq_true g3)⟩, hm⟩⟩

set_option maxRecDepth 100000 in
set_option maxHeartbeats 4000000 in
theorem w_X3_begin (l : Launch) (hlt : l.stackTraces = false) (T : GT) (mo : Nat) (am : Nat) (ae : Nat) (ap : Nat) (ab : Nat) (aw : Nat) (ac : Nat) (an : Nat) (a0 : Nat) (a1 : Nat) (a2 : Nat) (th : Int) (many : Int) (coins : Int) (pairs : Nat → Int) (needs : Nat → Int) (both : Nat → Int) (heavy : Nat → Int) (light : Nat → Int) (number : Int) (cn : Nat) (I7 : Int → Int → (Nat → Int) → Prop) (M7 : Int → Int → (Nat → Int) → g_mu) (post : Int → (Nat → Int) → (Nat → Int) → (Nat → Int) → (Nat → Int) → (Nat → Int) → Prop) (v0_ : I7 0 number pairs) (v7 : ∀ (coin : Int) (co : Int) (pr : Nat → Int), I7 coin co pr → (-2147483648 ≤ coin ∧ coin < 2147483648) ∧ ((9 ≤ coin → ((co = cn) ∧ ((3 ≤ cn ∧ cn ≤ 9) ∧ (∀ (needs2_2 : Nat → Int) (both2_3 : Nat → Int) (heavy2_4 : Nat → Int) (light2_5 : Nat → Int), (∀ x, x < 1000 → needs2_2 x = ndT cn x) → post co pr needs2_2 both2_3 heavy2_4 light2_5)))) ∧ (coin < 9 → ((-2147483648 ≤ coin ∧ coin < 2147483648) ∧ ((-2147483648 ≤ number ∧ number < 2147483648) ∧ ((number ≤ coin → ((0 ≤ coin ∧ coin < 9) ∧ (I7 (coin + 1) co (va_up pr coin.toNat 0) ∧ g_lt (M7 (coin + 1) co (va_up pr coin.toNat 0)) (M7 coin co pr)))) ∧ (coin < number → ((0 ≤ coin ∧ coin < 9) ∧ (I7 (coin + 1) co (va_up pr coin.toNat 3) ∧ g_lt (M7 (coin + 1) co (va_up pr coin.toNat 3)) (M7 coin co pr)))))))))) : MW l T yX3_begin cX3_begin 3 none ({ frames := 5, cells := 0, slots := 0, locals := 121 }) [.ref mo, .int (iN number)] [(mo, .inr (2, [.int (iN th), .ref am, .ref ae, .int (iN many), .ref ap, .ref ab, .ref aw, .int (iN coins), .ref ac, .ref an, .ref a0, .ref a1, .ref a2])), (ac, .inl (T.2.1 0, 9, .inl (zA pairs))), (an, .inl (T.2.1 0, 1000, .inl (zA needs))), (a0, .inl (T.2.1 0, 3, .inl (zA both))), (a1, .inl (T.2.1 0, 3, .inl (zA heavy))), (a2, .inl (T.2.1 0, 3, .inl (zA light)))] (fun v_ wn_ => ∃ (coins2 : Int), ∃ (pairs2 : Nat → Int), ∃ (needs2 : Nat → Int), ∃ (both2 : Nat → Int), ∃ (heavy2 : Nat → Int), ∃ (light2 : Nat → Int), v_ = none ∧ wn_ = [(mo, .inr (2, [.int (iN th), .ref am, .ref ae, .int (iN many), .ref ap, .ref ab, .ref aw, .int (iN coins2), .ref ac, .ref an, .ref a0, .ref a1, .ref a2])), (ac, .inl (T.2.1 0, 9, .inl (zA pairs2))), (an, .inl (T.2.1 0, 1000, .inl (zA needs2))), (a0, .inl (T.2.1 0, 3, .inl (zA both2))), (a1, .inl (T.2.1 0, 3, .inl (zA heavy2))), (a2, .inl (T.2.1 0, 3, .inl (zA light2)))] ∧ post coins2 pairs2 needs2 both2 heavy2 light2) 0 0 := by
  refine MW.start hlt (by decide) (lv0 := [some (.ref mo), some (.int (iN number)), none]) rfl (Nat.le_of_ble_eq_true rfl) rfl ?_
  intro p e R s m args below meth c A cx hr hnm hST hrw
  have key : ∀ μ : g_mu, (∀ (coin : Int) (co : Int) (pr : Nat → Int), I7 coin co pr → M7 coin co pr = μ → G p l e R s m args below meth c 3 T A A (MQ below (g_Q T (fun v_ wn_ => ∃ (coins2 : Int), ∃ (pairs2 : Nat → Int), ∃ (needs2 : Nat → Int), ∃ (both2 : Nat → Int), ∃ (heavy2 : Nat → Int), ∃ (light2 : Nat → Int), v_ = none ∧ wn_ = [(mo, .inr (2, [.int (iN th), .ref am, .ref ae, .int (iN many), .ref ap, .ref ab, .ref aw, .int (iN coins2), .ref ac, .ref an, .ref a0, .ref a1, .ref a2])), (ac, .inl (T.2.1 0, 9, .inl (zA pairs2))), (an, .inl (T.2.1 0, 1000, .inl (zA needs2))), (a0, .inl (T.2.1 0, 3, .inl (zA both2))), (a1, .inl (T.2.1 0, 3, .inl (zA heavy2))), (a2, .inl (T.2.1 0, 3, .inl (zA light2)))] ∧ post coins2 pairs2 needs2 both2 heavy2 light2) A) args s 0 0 A) 0 0 [(mo, .inr (2, [.int (iN th), .ref am, .ref ae, .int (iN many), .ref ap, .ref ab, .ref aw, .int (iN co), .ref ac, .ref an, .ref a0, .ref a1, .ref a2])), (ac, .inl (T.2.1 0, 9, .inl (zA pr))), (an, .inl (T.2.1 0, 1000, .inl (zA needs))), (a0, .inl (T.2.1 0, 3, .inl (zA both))), (a1, .inl (T.2.1 0, 3, .inl (zA heavy))), (a2, .inl (T.2.1 0, 3, .inl (zA light)))] [some (.ref mo), some (.int (iN number)), some (.int (iN coin))] 7 []) := by
    refine g_ind (fun μ ih => ?_)
    · intro coin co pr hI hM
      subst hM
      have vc := v7 coin co pr hI
      refine g_iload_n (q := 8) cx dX3_begin_7 rfl rfl ?_
      refine g_bipush (q := 10) (v := iN 9) cx dX3_begin_8 (by decide) rfl ?_
      refine g_icmp_geZ (q := 13) (tg := 35) cx vc.1 (by decide) dX3_begin_10 (by decide) rfl (fun h_1 => ?_) (fun h_1 => ?_)
      · have vc := vc.2.1 h_1
        refine g_aload_n (q := 36) cx dX3_begin_35 rfl rfl ?_
        refine g_cVw (q := 39) (b := mo) (As := []) (wr := [(ac, .inl (T.2.1 0, 9, .inl (zA pr)))]) (st := []) cx hST hrw (k_X3_layNeeds l hlt T mo am ae ap ab aw ac an a0 a1 a2 th many co needs both heavy light cn (vc.1) (vc.2.1)) q1037 s_X3_layNeeds rfl 0 rfl rfl (g_perm [1, 0, 2, 3, 4, 5] rfl rfl) (g_rmB rfl) (Nat.le_of_ble_eq_true rfl) dX3_begin_36 rfl (fun v_ wn_ hv_ => ?_)
        have vc := vc.2
        have vc := vc.2
        obtain ⟨needs2_2, both2_3, heavy2_4, light2_5, rfl, rfl, e_6⟩ := hv_
        have e_6 := e_6
        refine g_wp (ws2 := [(mo, .inr (2, [.int (iN th), .ref am, .ref ae, .int (iN many), .ref ap, .ref ab, .ref aw, .int (iN co), .ref ac, .ref an, .ref a0, .ref a1, .ref a2])), (ac, .inl (T.2.1 0, 9, .inl (zA pr))), (an, .inl (T.2.1 0, 1000, .inl (zA needs2_2))), (a0, .inl (T.2.1 0, 3, .inl (zA both2_3))), (a1, .inl (T.2.1 0, 3, .inl (zA heavy2_4))), (a2, .inl (T.2.1 0, 3, .inl (zA light2_5)))]) (g_perm [1, 0, 2, 3, 4, 5] rfl rfl) ?_
        refine g_cs (cells2 := 0) (slots2 := 0) (ws2 := [(mo, .inr (2, [.int (iN th), .ref am, .ref ae, .int (iN many), .ref ap, .ref ab, .ref aw, .int (iN co), .ref ac, .ref an, .ref a0, .ref a1, .ref a2])), (ac, .inl (T.2.1 0, 9, .inl (zA pr))), (an, .inl (T.2.1 0, 1000, .inl (zA needs2_2))), (a0, .inl (T.2.1 0, 3, .inl (zA both2_3))), (a1, .inl (T.2.1 0, 3, .inl (zA heavy2_4))), (a2, .inl (T.2.1 0, 3, .inl (zA light2_5)))]) rfl rfl rfl ?_
        refine g_st (st2 := []) rfl ?_
        have vc := vc needs2_2 both2_3 heavy2_4 light2_5 e_6
        exact g_vretW cx hr ⟨co, pr, needs2_2, both2_3, heavy2_4, light2_5, rfl, rfl, vc⟩ (by first | exact Nat.le_of_ble_eq_true rfl | omega) (by first | exact Nat.le_of_ble_eq_true rfl | omega) dX3_begin_39
      · have vc := vc.2.2 h_1
        refine g_aload_n (q := 14) cx dX3_begin_13 rfl rfl ?_
        refine g_get (q := 17) cx k_cX3 0 rfl 8 (by decide) q1078 (Or.inl rfl) rfl dX3_begin_14 rfl ?_
        refine g_iload_n (q := 18) cx dX3_begin_17 rfl rfl ?_
        refine g_iload_n (q := 19) cx dX3_begin_18 rfl rfl ?_
        refine g_iload_n (q := 20) cx dX3_begin_19 rfl rfl ?_
        refine g_icmp_geZ (q := 23) (tg := 27) cx vc.1 vc.2.1 dX3_begin_20 (by decide) rfl (fun h_7 => ?_) (fun h_7 => ?_)
        · have vc := vc.2.2.1 h_7
          refine g_iconst (q := 28) (v := iN 0) cx dX3_begin_27 rfl rfl ?_
          refine g_iastZ (q := 29) (ws2 := [(mo, .inr (2, [.int (iN th), .ref am, .ref ae, .int (iN many), .ref ap, .ref ab, .ref aw, .int (iN co), .ref ac, .ref an, .ref a0, .ref a1, .ref a2])), (ac, .inl (T.2.1 0, 9, .inl (zA (va_up pr coin.toNat 0)))), (an, .inl (T.2.1 0, 1000, .inl (zA needs))), (a0, .inl (T.2.1 0, 3, .inl (zA both))), (a1, .inl (T.2.1 0, 3, .inl (zA heavy))), (a2, .inl (T.2.1 0, 3, .inl (zA light)))]) cx hrw 1 (by decide) rfl vc.1 rfl dX3_begin_28 rfl ?_
          have vc := vc.2
          refine g_iinc (q := 32) (v := iN (coin + 1)) (lv2 := [some (.ref mo), some (.int (iN number)), some (.int (iN (coin + 1)))]) cx dX3_begin_29 rfl (iN_add _ _) (by decide) rfl rfl ?_
          refine g_goto (q := 7) cx dX3_begin_32 (by decide) ?_
          exact (ih _ vc.2) (coin + 1) co (va_up pr coin.toNat 0) vc.1 rfl
        · have vc := vc.2.2.2 h_7
          refine g_iconst (q := 24) (v := iN 3) cx dX3_begin_23 rfl rfl ?_
          refine g_goto (q := 28) cx dX3_begin_24 (by decide) ?_
          refine g_iastZ (q := 29) (ws2 := [(mo, .inr (2, [.int (iN th), .ref am, .ref ae, .int (iN many), .ref ap, .ref ab, .ref aw, .int (iN co), .ref ac, .ref an, .ref a0, .ref a1, .ref a2])), (ac, .inl (T.2.1 0, 9, .inl (zA (va_up pr coin.toNat 3)))), (an, .inl (T.2.1 0, 1000, .inl (zA needs))), (a0, .inl (T.2.1 0, 3, .inl (zA both))), (a1, .inl (T.2.1 0, 3, .inl (zA heavy))), (a2, .inl (T.2.1 0, 3, .inl (zA light)))]) cx hrw 1 (by decide) rfl vc.1 rfl dX3_begin_28 rfl ?_
          have vc := vc.2
          refine g_iinc (q := 32) (v := iN (coin + 1)) (lv2 := [some (.ref mo), some (.int (iN number)), some (.int (iN (coin + 1)))]) cx dX3_begin_29 rfl (iN_add _ _) (by decide) rfl rfl ?_
          refine g_goto (q := 7) cx dX3_begin_32 (by decide) ?_
          exact (ih _ vc.2) (coin + 1) co (va_up pr coin.toNat 3) vc.1 rfl
  have vc := v0_
  refine g_aload_n (q := 1) cx dX3_begin_0 rfl rfl ?_
  refine g_iload_n (q := 2) cx dX3_begin_1 rfl rfl ?_
  refine g_put (q := 5) (ws2 := [(mo, .inr (2, [.int (iN th), .ref am, .ref ae, .int (iN many), .ref ap, .ref ab, .ref aw, .int (iN number), .ref ac, .ref an, .ref a0, .ref a1, .ref a2])), (ac, .inl (T.2.1 0, 9, .inl (zA pairs))), (an, .inl (T.2.1 0, 1000, .inl (zA needs))), (a0, .inl (T.2.1 0, 3, .inl (zA both))), (a1, .inl (T.2.1 0, 3, .inl (zA heavy))), (a2, .inl (T.2.1 0, 3, .inl (zA light)))]) cx hrw k_cX3 0 rfl 7 (by decide) q1077 (Or.inl rfl) rfl rfl rfl (Nat.le_of_ble_eq_true rfl) rfl dX3_begin_2 rfl ?_
  refine g_iconst (q := 6) (v := iN 0) cx dX3_begin_5 rfl rfl ?_
  refine g_istore_n (q := 7) (lv2 := [some (.ref mo), some (.int (iN number)), some (.int (iN 0))]) cx dX3_begin_6 rfl (by decide) rfl rfl ?_
  exact (key _) 0 number pairs vc rfl

theorem k_X3_begin (l : Launch) (hlt : l.stackTraces = false) (T : GT) (mo : Nat) (am : Nat) (ae : Nat) (ap : Nat) (ab : Nat) (aw : Nat) (ac : Nat) (an : Nat) (a0 : Nat) (a1 : Nat) (a2 : Nat) (th : Int) (many : Int) (coins : Int) (pairs : Nat → Int) (needs : Nat → Int) (both : Nat → Int) (heavy : Nat → Int) (light : Nat → Int) (number : Int) (cn : Nat) (hp0 : number = cn) (hp1 : 3 ≤ cn ∧ cn ≤ 9) : MW l T yX3_begin cX3_begin 3 none ({ frames := 5, cells := 0, slots := 0, locals := 121 }) [.ref mo, .int (iN number)] [(mo, .inr (2, [.int (iN th), .ref am, .ref ae, .int (iN many), .ref ap, .ref ab, .ref aw, .int (iN coins), .ref ac, .ref an, .ref a0, .ref a1, .ref a2])), (ac, .inl (T.2.1 0, 9, .inl (zA pairs))), (an, .inl (T.2.1 0, 1000, .inl (zA needs))), (a0, .inl (T.2.1 0, 3, .inl (zA both))), (a1, .inl (T.2.1 0, 3, .inl (zA heavy))), (a2, .inl (T.2.1 0, 3, .inl (zA light)))] (fun v_ wn_ => ∃ (coins2 : Int), ∃ (pairs2 : Nat → Int), ∃ (needs2 : Nat → Int), ∃ (both2 : Nat → Int), ∃ (heavy2 : Nat → Int), ∃ (light2 : Nat → Int), v_ = none ∧ wn_ = [(mo, .inr (2, [.int (iN th), .ref am, .ref ae, .int (iN many), .ref ap, .ref ab, .ref aw, .int (iN coins2), .ref ac, .ref an, .ref a0, .ref a1, .ref a2])), (ac, .inl (T.2.1 0, 9, .inl (zA pairs2))), (an, .inl (T.2.1 0, 1000, .inl (zA needs2))), (a0, .inl (T.2.1 0, 3, .inl (zA both2))), (a1, .inl (T.2.1 0, 3, .inl (zA heavy2))), (a2, .inl (T.2.1 0, 3, .inl (zA light2)))] ∧ coins2 = number ∧ ((∀ i, i < 9 → pairs2 i = if i < cn then 3 else 0) ∧ ∀ x, x < 1000 → needs2 x = ndT cn x)) 0 0 := by
  refine w_X3_begin l hlt T mo am ae ap ab aw ac an a0 a1 a2 th many coins pairs needs both heavy light number cn (I7 := fun coin co pr => ∃ j : Nat, j ≤ 9 ∧ coin = j ∧ co = number ∧ ∀ i, i < j → pr i = if i < cn then 3 else 0) (M7 := fun coin _ _ => (0, 0, 0, (9 - coin).toNat)) _ ?_ ?_
  · exact ⟨0, by omega, rfl, rfl, fun x hx => absurd hx (Nat.not_lt_zero _)⟩
  · subst hp0
    rintro coin co pr ⟨j, hj, rfl, rfl, hx⟩
    refine ⟨by omega, fun h => ⟨rfl, hp1, fun nd bo he li h2 => ?_⟩, fun h => ⟨by omega, by omega, fun h2 => ⟨by omega, ?_, g_ltI (by omega)⟩, fun h2 => ⟨by omega, ?_, g_ltI (by omega)⟩⟩⟩
    · exact ⟨rfl, fun i hi => hx i (by omega), h2⟩
    · refine ⟨j + 1, by omega, rfl, rfl, fun i hi => ?_⟩
      rw [Int.toNat_natCast]
      by_cases g : i = j
      · rw [g, va_up_self, if_neg (by omega)]
      · rw [va_up_ne _ _ g]
        exact hx i (by omega)
    · refine ⟨j + 1, by omega, rfl, rfl, fun i hi => ?_⟩
      rw [Int.toNat_natCast]
      by_cases g : i = j
      · rw [g, va_up_self, if_pos (by omega)]
      · rw [va_up_ne _ _ g]
        exact hx i (by omega)
