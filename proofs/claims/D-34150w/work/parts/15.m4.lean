set_option maxRecDepth 100000 in
set_option maxHeartbeats 4000000 in
theorem w_X3_findBest (l : Launch) (hlt : l.stackTraces = false) (T : GT) (mo : Nat) (am : Nat) (ae : Nat) (ap : Nat) (ab : Nat) (aw : Nat) (ac : Nat) (an : Nat) (a0 : Nat) (a1 : Nat) (a2 : Nat) (th : Int) (many : Int) (coins : Int) (masses : Nat → Int) (placing : Nat → Int) (best : Nat → Int) (mass : Int) (n : Nat) (I7 : Int → Int → Int → (Nat → Int) → (Nat → Int) → Prop) (M7 : Int → Int → Int → (Nat → Int) → (Nat → Int) → g_mu) (I55 : Int → Int → Int → (Nat → Int) → (Nat → Int) → Prop) (M55 : Int → Int → Int → (Nat → Int) → (Nat → Int) → g_mu) (I68 : Int → Int → Int → Int → (Nat → Int) → (Nat → Int) → Prop) (M68 : Int → Int → Int → Int → (Nat → Int) → (Nat → Int) → g_mu) (post : Int → (Nat → Int) → (Nat → Int) → Prop) (v0_ : I7 (-1) 0 0 placing best) (v7 : ∀ (size : Int) (left : Int) (number : Int) (pl : Nat → Int) (bst : Nat → Int), I7 size left number pl bst → (many = n) ∧ ((n ≤ 7) ∧ ((-2147483648 ≤ number ∧ number < 2147483648) ∧ ((-2147483648 ≤ ((3 ^ n : Nat) : Int) ∧ ((3 ^ n : Nat) : Int) < 2147483648) ∧ ((((3 ^ n : Nat) : Int) ≤ number → (post size pl bst)) ∧ (number < ((3 ^ n : Nat) : Int) → ((many = n) ∧ ((n ≤ 7) ∧ ((msOK n masses) ∧ ((0 ≤ number ∧ number < 2147483648) ∧ ((-2147483648 ≤ (psum masses n number.toNat n) ∧ (psum masses n number.toNat n) < 2147483648) ∧ ((-2147483648 ≤ mass ∧ mass < 2147483648) ∧ ((¬ (psum masses n number.toNat n) = mass → (I7 size left (number + 1) (plac n number.toNat pl) bst ∧ g_lt (M7 size left (number + 1) (plac n number.toNat pl) bst) (M7 size left number pl bst))) ∧ ((psum masses n number.toNat n) = mass → ((-2147483648 ≤ size ∧ size < 2147483648) ∧ ((size = (-1) → (I55 size left number (plac n number.toNat pl) bst ∧ g_lt (M55 size left number (plac n number.toNat pl) bst) (M7 size left number pl bst))) ∧ (¬ size = (-1) → ((many = n) ∧ ((n ≤ 7) ∧ ((-2147483648 ≤ ((psize n number.toNat : Nat) : Int) ∧ ((psize n number.toNat : Nat) : Int) < 2147483648) ∧ ((-2147483648 ≤ size ∧ size < 2147483648) ∧ ((((psize n number.toNat : Nat) : Int) < size → (I55 size left number (plac n number.toNat pl) bst ∧ g_lt (M55 size left number (plac n number.toNat pl) bst) (M7 size left number pl bst))) ∧ (size ≤ ((psize n number.toNat : Nat) : Int) → ((many = n) ∧ ((n ≤ 7) ∧ ((-2147483648 ≤ ((psize n number.toNat : Nat) : Int) ∧ ((psize n number.toNat : Nat) : Int) < 2147483648) ∧ ((-2147483648 ≤ size ∧ size < 2147483648) ∧ ((¬ ((psize n number.toNat : Nat) : Int) = size → (I7 size left (number + 1) (plac n number.toNat pl) bst ∧ g_lt (M7 size left (number + 1) (plac n number.toNat pl) bst) (M7 size left number pl bst))) ∧ (((psize n number.toNat : Nat) : Int) = size → ((many = n) ∧ ((n ≤ 7) ∧ ((-2147483648 ≤ ((pleft n number.toNat : Nat) : Int) ∧ ((pleft n number.toNat : Nat) : Int) < 2147483648) ∧ ((-2147483648 ≤ left ∧ left < 2147483648) ∧ ((left ≤ ((pleft n number.toNat : Nat) : Int) → (I7 size left (number + 1) (plac n number.toNat pl) bst ∧ g_lt (M7 size left (number + 1) (plac n number.toNat pl) bst) (M7 size left number pl bst))) ∧ (((pleft n number.toNat : Nat) : Int) < left → (I55 size left number (plac n number.toNat pl) bst ∧ g_lt (M55 size left number (plac n number.toNat pl) bst) (M7 size left number pl bst))))))))))))))))))))))))))))))))))))) (v55 : ∀ (size : Int) (left : Int) (number : Int) (pl : Nat → Int) (bst : Nat → Int), I55 size left number pl bst → (many = n) ∧ ((n ≤ 7) ∧ ((∀ k, k < n → -1 ≤ pl k ∧ pl k ≤ 1) ∧ ((many = n) ∧ ((n ≤ 7) ∧ ((∀ k, k < n → -1 ≤ pl k ∧ pl k ≤ 1) ∧ (I68 ((cntB (fun k => !decide (pl k = 0)) n : Nat) : Int) ((cntB (fun k => decide (pl k = -1)) n : Nat) : Int) number 0 pl bst ∧ g_lt (M68 ((cntB (fun k => !decide (pl k = 0)) n : Nat) : Int) ((cntB (fun k => decide (pl k = -1)) n : Nat) : Int) number 0 pl bst) (M55 size left number pl bst)))))))) (v68 : ∀ (size : Int) (left : Int) (number : Int) (k : Int) (pl : Nat → Int) (bst : Nat → Int), I68 size left number k pl bst → (-2147483648 ≤ k ∧ k < 2147483648) ∧ ((-2147483648 ≤ many ∧ many < 2147483648) ∧ ((many ≤ k → (I7 size left (number + 1) pl bst ∧ g_lt (M7 size left (number + 1) pl bst) (M68 size left number k pl bst))) ∧ (k < many → ((0 ≤ k ∧ k < 7) ∧ ((0 ≤ k ∧ k < 7) ∧ (I68 size left number (k + 1) pl (va_up bst k.toNat (pl k.toNat)) ∧ g_lt (M68 size left number (k + 1) pl (va_up bst k.toNat (pl k.toNat))) (M68 size left number k pl bst)))))))) : MW l T yX3_findBest cX3_findBest 6 (some .int) ({ frames := 1, cells := 0, slots := 0, locals := 24 }) [.ref mo, .int (iN mass)] [(mo, .inr (2, [.int (iN th), .ref am, .ref ae, .int (iN many), .ref ap, .ref ab, .ref aw, .int (iN coins), .ref ac, .ref an, .ref a0, .ref a1, .ref a2])), (am, .inl (T.2.1 0, 7, .inl (zA masses))), (ap, .inl (T.2.1 0, 7, .inl (zA placing))), (ab, .inl (T.2.1 0, 7, .inl (zA best)))] (fun v_ wn_ => ∃ (r : Int), ∃ (placing2 : Nat → Int), ∃ (best2 : Nat → Int), v_ = some (.int (iN r)) ∧ wn_ = [(mo, .inr (2, [.int (iN th), .ref am, .ref ae, .int (iN many), .ref ap, .ref ab, .ref aw, .int (iN coins), .ref ac, .ref an, .ref a0, .ref a1, .ref a2])), (am, .inl (T.2.1 0, 7, .inl (zA masses))), (ap, .inl (T.2.1 0, 7, .inl (zA placing2))), (ab, .inl (T.2.1 0, 7, .inl (zA best2)))] ∧ post r placing2 best2) 0 0 := by
  refine MW.start hlt (by decide) (lv0 := [some (.ref mo), some (.int (iN mass)), none, none, none, none]) rfl (Nat.le_of_ble_eq_true rfl) rfl ?_
  intro p e R s m args below meth c A cx hr hnm hST hrw
  have key : ∀ μ : g_mu, (∀ (size : Int) (left : Int) (number : Int) (pl : Nat → Int) (bst : Nat → Int), I7 size left number pl bst → M7 size left number pl bst = μ → G p l e R s m args below meth c 6 T A A (MQ below (g_Q T (fun v_ wn_ => ∃ (r : Int), ∃ (placing2 : Nat → Int), ∃ (best2 : Nat → Int), v_ = some (.int (iN r)) ∧ wn_ = [(mo, .inr (2, [.int (iN th), .ref am, .ref ae, .int (iN many), .ref ap, .ref ab, .ref aw, .int (iN coins), .ref ac, .ref an, .ref a0, .ref a1, .ref a2])), (am, .inl (T.2.1 0, 7, .inl (zA masses))), (ap, .inl (T.2.1 0, 7, .inl (zA placing2))), (ab, .inl (T.2.1 0, 7, .inl (zA best2)))] ∧ post r placing2 best2) A) args s 0 0 A) 0 0 [(mo, .inr (2, [.int (iN th), .ref am, .ref ae, .int (iN many), .ref ap, .ref ab, .ref aw, .int (iN coins), .ref ac, .ref an, .ref a0, .ref a1, .ref a2])), (am, .inl (T.2.1 0, 7, .inl (zA masses))), (ap, .inl (T.2.1 0, 7, .inl (zA pl))), (ab, .inl (T.2.1 0, 7, .inl (zA bst)))] [some (.ref mo), some (.int (iN mass)), some (.int (iN size)), some (.int (iN left)), some (.int (iN number)), none] 7 []) ∧ (∀ (size : Int) (left : Int) (number : Int) (pl : Nat → Int) (bst : Nat → Int), I55 size left number pl bst → M55 size left number pl bst = μ → G p l e R s m args below meth c 6 T A A (MQ below (g_Q T (fun v_ wn_ => ∃ (r : Int), ∃ (placing2 : Nat → Int), ∃ (best2 : Nat → Int), v_ = some (.int (iN r)) ∧ wn_ = [(mo, .inr (2, [.int (iN th), .ref am, .ref ae, .int (iN many), .ref ap, .ref ab, .ref aw, .int (iN coins), .ref ac, .ref an, .ref a0, .ref a1, .ref a2])), (am, .inl (T.2.1 0, 7, .inl (zA masses))), (ap, .inl (T.2.1 0, 7, .inl (zA placing2))), (ab, .inl (T.2.1 0, 7, .inl (zA best2)))] ∧ post r placing2 best2) A) args s 0 0 A) 0 0 [(mo, .inr (2, [.int (iN th), .ref am, .ref ae, .int (iN many), .ref ap, .ref ab, .ref aw, .int (iN coins), .ref ac, .ref an, .ref a0, .ref a1, .ref a2])), (am, .inl (T.2.1 0, 7, .inl (zA masses))), (ap, .inl (T.2.1 0, 7, .inl (zA pl))), (ab, .inl (T.2.1 0, 7, .inl (zA bst)))] [some (.ref mo), some (.int (iN mass)), some (.int (iN size)), some (.int (iN left)), some (.int (iN number)), none] 55 []) ∧ (∀ (size : Int) (left : Int) (number : Int) (k : Int) (pl : Nat → Int) (bst : Nat → Int), I68 size left number k pl bst → M68 size left number k pl bst = μ → G p l e R s m args below meth c 6 T A A (MQ below (g_Q T (fun v_ wn_ => ∃ (r : Int), ∃ (placing2 : Nat → Int), ∃ (best2 : Nat → Int), v_ = some (.int (iN r)) ∧ wn_ = [(mo, .inr (2, [.int (iN th), .ref am, .ref ae, .int (iN many), .ref ap, .ref ab, .ref aw, .int (iN coins), .ref ac, .ref an, .ref a0, .ref a1, .ref a2])), (am, .inl (T.2.1 0, 7, .inl (zA masses))), (ap, .inl (T.2.1 0, 7, .inl (zA placing2))), (ab, .inl (T.2.1 0, 7, .inl (zA best2)))] ∧ post r placing2 best2) A) args s 0 0 A) 0 0 [(mo, .inr (2, [.int (iN th), .ref am, .ref ae, .int (iN many), .ref ap, .ref ab, .ref aw, .int (iN coins), .ref ac, .ref an, .ref a0, .ref a1, .ref a2])), (am, .inl (T.2.1 0, 7, .inl (zA masses))), (ap, .inl (T.2.1 0, 7, .inl (zA pl))), (ab, .inl (T.2.1 0, 7, .inl (zA bst)))] [some (.ref mo), some (.int (iN mass)), some (.int (iN size)), some (.int (iN left)), some (.int (iN number)), some (.int (iN k))] 68 []) := by
    refine g_ind (fun μ ih => ⟨?_, ?_, ?_⟩)
    · intro size left number pl bst hI hM
      subst hM
      have vc := v7 size left number pl bst hI
      refine g_iload (q := 9) cx dX3_findBest_7 rfl rfl ?_
      refine g_aload_n (q := 10) cx dX3_findBest_9 rfl rfl ?_
      refine g_cVr (q := 13) (b := mo) (As := []) (wr := [(am, .inl (T.2.1 0, 7, .inl (zA masses))), (ap, .inl (T.2.1 0, 7, .inl (zA pl))), (ab, .inl (T.2.1 0, 7, .inl (zA bst)))]) (st := [.int (iN number)]) cx hST (k_X3_placings l hlt T mo am ae ap ab aw ac an a0 a1 a2 th many coins n (vc.1) (vc.2.1)) q1153 s_X3_placings rfl 0 rfl rfl (g_perm [1, 2, 3, 0] rfl rfl) (g_rmB rfl) (Nat.le_of_ble_eq_true rfl) dX3_findBest_10 rfl (fun v_ hv_ => ?_)
      have vc := vc.2
      have vc := vc.2
      obtain ⟨r_1, rfl, e_2⟩ := hv_
      subst e_2
      refine g_st (st2 := [.int (iN ((3 ^ n : Nat) : Int)), .int (iN number)]) rfl ?_
      refine g_icmp_geZ (q := 16) (tg := 103) cx vc.1 vc.2.1 dX3_findBest_13 (by decide) rfl (fun h_3 => ?_) (fun h_3 => ?_)
      · have vc := vc.2.2.1 h_3
        refine g_iload_n (q := 104) cx dX3_findBest_103 rfl rfl ?_
        exact g_iretW cx hr rfl ⟨size, pl, bst, rfl, rfl, vc⟩ (by first | exact Nat.le_of_ble_eq_true rfl | omega) (by first | exact Nat.le_of_ble_eq_true rfl | omega) dX3_findBest_104
      · have vc := vc.2.2.2 h_3
        refine g_aload_n (q := 17) cx dX3_findBest_16 rfl rfl ?_
        refine g_iload (q := 19) cx dX3_findBest_17 rfl rfl ?_
        refine g_cVw (q := 22) (b := mo) (As := [.int (iN number)]) (wr := [(ab, .inl (T.2.1 0, 7, .inl (zA bst)))]) (st := []) cx hST hrw (k_X3_place l hlt T mo am ae ap ab aw ac an a0 a1 a2 th many coins masses pl number n (vc.1) (vc.2.1) (vc.2.2.1) (vc.2.2.2.1)) q1157 s_X3_place rfl 0 rfl rfl (g_perm [3, 0, 1, 2] rfl rfl) (g_rmB rfl) (Nat.le_of_ble_eq_true rfl) dX3_findBest_19 rfl (fun v_ wn_ hv_ => ?_)
        have vc := vc.2
        have vc := vc.2
        have vc := vc.2
        have vc := vc.2
        obtain ⟨r_4, placing2_5, rfl, rfl, e_6⟩ := hv_
        obtain ⟨rfl, rfl⟩ := e_6
        refine g_wp (ws2 := [(mo, .inr (2, [.int (iN th), .ref am, .ref ae, .int (iN many), .ref ap, .ref ab, .ref aw, .int (iN coins), .ref ac, .ref an, .ref a0, .ref a1, .ref a2])), (am, .inl (T.2.1 0, 7, .inl (zA masses))), (ap, .inl (T.2.1 0, 7, .inl (zA (plac n number.toNat pl)))), (ab, .inl (T.2.1 0, 7, .inl (zA bst)))]) (g_perm [1, 2, 3, 0] rfl rfl) ?_
        refine g_cs (cells2 := 0) (slots2 := 0) (ws2 := [(mo, .inr (2, [.int (iN th), .ref am, .ref ae, .int (iN many), .ref ap, .ref ab, .ref aw, .int (iN coins), .ref ac, .ref an, .ref a0, .ref a1, .ref a2])), (am, .inl (T.2.1 0, 7, .inl (zA masses))), (ap, .inl (T.2.1 0, 7, .inl (zA (plac n number.toNat pl)))), (ab, .inl (T.2.1 0, 7, .inl (zA bst)))]) rfl rfl rfl ?_
        refine g_st (st2 := [.int (iN (psum masses n number.toNat n))]) rfl ?_
        refine g_iload_n (q := 23) cx dX3_findBest_22 rfl rfl ?_
        refine g_icmp_neZ (q := 26) (tg := 97) cx vc.1 vc.2.1 dX3_findBest_23 (by decide) rfl (fun h_7 => ?_) (fun h_7 => ?_)
        · have vc := vc.2.2.1 h_7
          refine g_iinc (q := 100) (v := iN (number + 1)) (lv2 := [some (.ref mo), some (.int (iN mass)), some (.int (iN size)), some (.int (iN left)), some (.int (iN (number + 1))), none]) cx dX3_findBest_97 rfl (iN_add _ _) (by decide) rfl rfl ?_
          refine g_goto (q := 7) cx dX3_findBest_100 (by decide) ?_
          exact ((ih _ vc.2).1) size left (number + 1) (plac n number.toNat pl) bst vc.1 rfl
        · have vc := vc.2.2.2 h_7
          refine g_iload_n (q := 27) cx dX3_findBest_26 rfl rfl ?_
          refine g_iconst (q := 28) (v := iN (-1)) cx dX3_findBest_27 rfl rfl ?_
          refine g_icmp_eqZ (q := 31) (tg := 55) cx vc.1 (by decide) dX3_findBest_28 (by decide) rfl (fun h_8 => ?_) (fun h_8 => ?_)
          · have vc := vc.2.1 h_8
            exact ((ih _ vc.2).2.1) size left number (plac n number.toNat pl) bst vc.1 rfl
          · have vc := vc.2.2 h_8
            refine g_aload_n (q := 32) cx dX3_findBest_31 rfl rfl ?_
            refine g_cVr (q := 35) (b := mo) (As := []) (wr := [(am, .inl (T.2.1 0, 7, .inl (zA masses))), (ab, .inl (T.2.1 0, 7, .inl (zA bst)))]) (st := []) cx hST (k_X3_sizeOf_p l hlt T mo am ae ap ab aw ac an a0 a1 a2 th many coins n number.toNat pl (vc.1) (vc.2.1)) q1185 s_X3_sizeOf rfl 0 rfl rfl (g_perm [1, 3, 0, 2] rfl rfl) (g_rmB rfl) (Nat.le_of_ble_eq_true rfl) dX3_findBest_32 rfl (fun v_ hv_ => ?_)
            have vc := vc.2
            have vc := vc.2
            obtain ⟨r_9, rfl, e_10⟩ := hv_
            subst e_10
            refine g_st (st2 := [.int (iN ((psize n number.toNat : Nat) : Int))]) rfl ?_
            refine g_iload_n (q := 36) cx dX3_findBest_35 rfl rfl ?_
            refine g_icmp_ltZ (q := 39) (tg := 55) cx vc.1 vc.2.1 dX3_findBest_36 (by decide) rfl (fun h_11 => ?_) (fun h_11 => ?_)
            · have vc := vc.2.2.1 h_11
              exact ((ih _ vc.2).2.1) size left number (plac n number.toNat pl) bst vc.1 rfl
            · have vc := vc.2.2.2 h_11
              refine g_aload_n (q := 40) cx dX3_findBest_39 rfl rfl ?_
              refine g_cVr (q := 43) (b := mo) (As := []) (wr := [(am, .inl (T.2.1 0, 7, .inl (zA masses))), (ab, .inl (T.2.1 0, 7, .inl (zA bst)))]) (st := []) cx hST (k_X3_sizeOf_p l hlt T mo am ae ap ab aw ac an a0 a1 a2 th many coins n number.toNat pl (vc.1) (vc.2.1)) q1185 s_X3_sizeOf rfl 0 rfl rfl (g_perm [1, 3, 0, 2] rfl rfl) (g_rmB rfl) (Nat.le_of_ble_eq_true rfl) dX3_findBest_40 rfl (fun v_ hv_ => ?_)
              have vc := vc.2
              have vc := vc.2
              obtain ⟨r_12, rfl, e_13⟩ := hv_
              subst e_13
              refine g_st (st2 := [.int (iN ((psize n number.toNat : Nat) : Int))]) rfl ?_
              refine g_iload_n (q := 44) cx dX3_findBest_43 rfl rfl ?_
              refine g_icmp_neZ (q := 47) (tg := 97) cx vc.1 vc.2.1 dX3_findBest_44 (by decide) rfl (fun h_14 => ?_) (fun h_14 => ?_)
              · have vc := vc.2.2.1 h_14
                refine g_iinc (q := 100) (v := iN (number + 1)) (lv2 := [some (.ref mo), some (.int (iN mass)), some (.int (iN size)), some (.int (iN left)), some (.int (iN (number + 1))), none]) cx dX3_findBest_97 rfl (iN_add _ _) (by decide) rfl rfl ?_
                refine g_goto (q := 7) cx dX3_findBest_100 (by decide) ?_
                exact ((ih _ vc.2).1) size left (number + 1) (plac n number.toNat pl) bst vc.1 rfl
              · have vc := vc.2.2.2 h_14
                refine g_aload_n (q := 48) cx dX3_findBest_47 rfl rfl ?_
                refine g_cVr (q := 51) (b := mo) (As := []) (wr := [(am, .inl (T.2.1 0, 7, .inl (zA masses))), (ab, .inl (T.2.1 0, 7, .inl (zA bst)))]) (st := []) cx hST (k_X3_leftOf_p l hlt T mo am ae ap ab aw ac an a0 a1 a2 th many coins n number.toNat pl (vc.1) (vc.2.1)) q1165 s_X3_leftOf rfl 0 rfl rfl (g_perm [1, 3, 0, 2] rfl rfl) (g_rmB rfl) (Nat.le_of_ble_eq_true rfl) dX3_findBest_48 rfl (fun v_ hv_ => ?_)
                have vc := vc.2
                have vc := vc.2
                obtain ⟨r_15, rfl, e_16⟩ := hv_
                subst e_16
                refine g_st (st2 := [.int (iN ((pleft n number.toNat : Nat) : Int))]) rfl ?_
                refine g_iload_n (q := 52) cx dX3_findBest_51 rfl rfl ?_
                refine g_icmp_geZ (q := 55) (tg := 97) cx vc.1 vc.2.1 dX3_findBest_52 (by decide) rfl (fun h_17 => ?_) (fun h_17 => ?_)
                · have vc := vc.2.2.1 h_17
                  refine g_iinc (q := 100) (v := iN (number + 1)) (lv2 := [some (.ref mo), some (.int (iN mass)), some (.int (iN size)), some (.int (iN left)), some (.int (iN (number + 1))), none]) cx dX3_findBest_97 rfl (iN_add _ _) (by decide) rfl rfl ?_
                  refine g_goto (q := 7) cx dX3_findBest_100 (by decide) ?_
                  exact ((ih _ vc.2).1) size left (number + 1) (plac n number.toNat pl) bst vc.1 rfl
                · have vc := vc.2.2.2 h_17
                  exact ((ih _ vc.2).2.1) size left number (plac n number.toNat pl) bst vc.1 rfl
    · intro size left number pl bst hI hM
      subst hM
      have vc := v55 size left number pl bst hI
      refine g_aload_n (q := 56) cx dX3_findBest_55 rfl rfl ?_
      refine g_cVr (q := 59) (b := mo) (As := []) (wr := [(am, .inl (T.2.1 0, 7, .inl (zA masses))), (ab, .inl (T.2.1 0, 7, .inl (zA bst)))]) (st := []) cx hST (k_X3_sizeOf l hlt T mo am ae ap ab aw ac an a0 a1 a2 th many coins pl n (vc.1) (vc.2.1) (vc.2.2.1)) q1185 s_X3_sizeOf rfl 0 rfl rfl (g_perm [1, 3, 0, 2] rfl rfl) (g_rmB rfl) (Nat.le_of_ble_eq_true rfl) dX3_findBest_56 rfl (fun v_ hv_ => ?_)
      have vc := vc.2
      have vc := vc.2
      have vc := vc.2
      obtain ⟨r_18, rfl, e_19⟩ := hv_
      subst e_19
      refine g_st (st2 := [.int (iN ((cntB (fun k => !decide (pl k = 0)) n : Nat) : Int))]) rfl ?_
      refine g_istore_n (q := 60) (lv2 := [some (.ref mo), some (.int (iN mass)), some (.int (iN ((cntB (fun k => !decide (pl k = 0)) n : Nat) : Int))), some (.int (iN left)), some (.int (iN number)), none]) cx dX3_findBest_59 rfl (by decide) rfl rfl ?_
      refine g_aload_n (q := 61) cx dX3_findBest_60 rfl rfl ?_
      refine g_cVr (q := 64) (b := mo) (As := []) (wr := [(am, .inl (T.2.1 0, 7, .inl (zA masses))), (ab, .inl (T.2.1 0, 7, .inl (zA bst)))]) (st := []) cx hST (k_X3_leftOf l hlt T mo am ae ap ab aw ac an a0 a1 a2 th many coins pl n (vc.1) (vc.2.1) (vc.2.2.1)) q1165 s_X3_leftOf rfl 0 rfl rfl (g_perm [1, 3, 0, 2] rfl rfl) (g_rmB rfl) (Nat.le_of_ble_eq_true rfl) dX3_findBest_61 rfl (fun v_ hv_ => ?_)
      have vc := vc.2
      have vc := vc.2
      have vc := vc.2
      obtain ⟨r_20, rfl, e_21⟩ := hv_
      subst e_21
      refine g_st (st2 := [.int (iN ((cntB (fun k => decide (pl k = -1)) n : Nat) : Int))]) rfl ?_
      refine g_istore_n (q := 65) (lv2 := [some (.ref mo), some (.int (iN mass)), some (.int (iN ((cntB (fun k => !decide (pl k = 0)) n : Nat) : Int))), some (.int (iN ((cntB (fun k => decide (pl k = -1)) n : Nat) : Int))), some (.int (iN number)), none]) cx dX3_findBest_64 rfl (by decide) rfl rfl ?_
      refine g_iconst (q := 66) (v := iN 0) cx dX3_findBest_65 rfl rfl ?_
      refine g_istore (q := 68) (lv2 := [some (.ref mo), some (.int (iN mass)), some (.int (iN ((cntB (fun k => !decide (pl k = 0)) n : Nat) : Int))), some (.int (iN ((cntB (fun k => decide (pl k = -1)) n : Nat) : Int))), some (.int (iN number)), some (.int (iN 0))]) cx dX3_findBest_66 (by decide) rfl rfl ?_
      exact ((ih _ vc.2).2.2) ((cntB (fun k => !decide (pl k = 0)) n : Nat) : Int) ((cntB (fun k => decide (pl k = -1)) n : Nat) : Int) number 0 pl bst vc.1 rfl
    · intro size left number k pl bst hI hM
      subst hM
      have vc := v68 size left number k pl bst hI
      refine g_iload (q := 70) cx dX3_findBest_68 rfl rfl ?_
      refine g_aload_n (q := 71) cx dX3_findBest_70 rfl rfl ?_
      refine g_get (q := 74) cx k_cX3 0 rfl 3 (by decide) q1073 (Or.inl rfl) rfl dX3_findBest_71 rfl ?_
      refine g_icmp_geZ (q := 77) (tg := 97) cx vc.1 vc.2.1 dX3_findBest_74 (by decide) rfl (fun h_22 => ?_) (fun h_22 => ?_)
      · have vc := vc.2.2.1 h_22
        refine g_iinc (q := 100) (v := iN (number + 1)) (lv2 := [some (.ref mo), some (.int (iN mass)), some (.int (iN size)), some (.int (iN left)), some (.int (iN (number + 1))), some (.int (iN k))]) cx dX3_findBest_97 rfl (iN_add _ _) (by decide) rfl rfl ?_
        refine g_goto (q := 7) cx dX3_findBest_100 (by decide) ?_
        refine g_wk (lv2 := [some (.ref mo), some (.int (iN mass)), some (.int (iN size)), some (.int (iN left)), some (.int (iN (number + 1))), none]) ⟨rfl, ⟨rfl, ⟨rfl, ⟨rfl, ⟨rfl, trivial⟩⟩⟩⟩⟩ ?_
        exact ((ih _ vc.2).1) size left (number + 1) pl bst vc.1 rfl
      · have vc := vc.2.2.2 h_22
        refine g_aload_n (q := 78) cx dX3_findBest_77 rfl rfl ?_
        refine g_get (q := 81) cx k_cX3 0 rfl 5 (by decide) q1075 (Or.inl rfl) rfl dX3_findBest_78 rfl ?_
        refine g_iload (q := 83) cx dX3_findBest_81 rfl rfl ?_
        refine g_aload_n (q := 84) cx dX3_findBest_83 rfl rfl ?_
        refine g_get (q := 87) cx k_cX3 0 rfl 4 (by decide) q1074 (Or.inl rfl) rfl dX3_findBest_84 rfl ?_
        refine g_iload (q := 89) cx dX3_findBest_87 rfl rfl ?_
        refine g_ialdZ (q := 90) cx 2 (by decide) rfl vc.1 dX3_findBest_89 rfl ?_
        have vc := vc.2
        refine g_iastZ (q := 91) (ws2 := [(mo, .inr (2, [.int (iN th), .ref am, .ref ae, .int (iN many), .ref ap, .ref ab, .ref aw, .int (iN coins), .ref ac, .ref an, .ref a0, .ref a1, .ref a2])), (am, .inl (T.2.1 0, 7, .inl (zA masses))), (ap, .inl (T.2.1 0, 7, .inl (zA pl))), (ab, .inl (T.2.1 0, 7, .inl (zA (va_up bst k.toNat (pl k.toNat)))))]) cx hrw 3 (by decide) rfl vc.1 rfl dX3_findBest_90 rfl ?_
        have vc := vc.2
        refine g_iinc (q := 94) (v := iN (k + 1)) (lv2 := [some (.ref mo), some (.int (iN mass)), some (.int (iN size)), some (.int (iN left)), some (.int (iN number)), some (.int (iN (k + 1)))]) cx dX3_findBest_91 rfl (iN_add _ _) (by decide) rfl rfl ?_
        refine g_goto (q := 68) cx dX3_findBest_94 (by decide) ?_
        exact ((ih _ vc.2).2.2) size left number (k + 1) pl (va_up bst k.toNat (pl k.toNat)) vc.1 rfl
  have vc := v0_
  refine g_iconst (q := 1) (v := iN (-1)) cx dX3_findBest_0 rfl rfl ?_
  refine g_istore_n (q := 2) (lv2 := [some (.ref mo), some (.int (iN mass)), some (.int (iN (-1))), none, none, none]) cx dX3_findBest_1 rfl (by decide) rfl rfl ?_
  refine g_iconst (q := 3) (v := iN 0) cx dX3_findBest_2 rfl rfl ?_
  refine g_istore_n (q := 4) (lv2 := [some (.ref mo), some (.int (iN mass)), some (.int (iN (-1))), some (.int (iN 0)), none, none]) cx dX3_findBest_3 rfl (by decide) rfl rfl ?_
  refine g_iconst (q := 5) (v := iN 0) cx dX3_findBest_4 rfl rfl ?_
  refine g_istore (q := 7) (lv2 := [some (.ref mo), some (.int (iN mass)), some (.int (iN (-1))), some (.int (iN 0)), some (.int (iN 0)), none]) cx dX3_findBest_5 (by decide) rfl rfl ?_
  exact ((key _).1) (-1) 0 0 placing best vc rfl

theorem k_X3_findBest (l : Launch) (hlt : l.stackTraces = false) (T : GT) (mo : Nat) (am : Nat) (ae : Nat) (ap : Nat) (ab : Nat) (aw : Nat) (ac : Nat) (an : Nat) (a0 : Nat) (a1 : Nat) (a2 : Nat) (th : Int) (many : Int) (coins : Int) (masses : Nat → Int) (placing : Nat → Int) (best : Nat → Int) (mass : Int) (n : Nat) (hp0 : many = n) (hp1 : n ≤ 7) (hp2 : msOK n masses) (hp3 : -2147483648 ≤ mass ∧ mass < 2147483648) : MW l T yX3_findBest cX3_findBest 6 (some .int) ({ frames := 1, cells := 0, slots := 0, locals := 24 }) [.ref mo, .int (iN mass)] [(mo, .inr (2, [.int (iN th), .ref am, .ref ae, .int (iN many), .ref ap, .ref ab, .ref aw, .int (iN coins), .ref ac, .ref an, .ref a0, .ref a1, .ref a2])), (am, .inl (T.2.1 0, 7, .inl (zA masses))), (ap, .inl (T.2.1 0, 7, .inl (zA placing))), (ab, .inl (T.2.1 0, 7, .inl (zA best)))] (fun v_ wn_ => ∃ (r : Int), ∃ (placing2 : Nat → Int), ∃ (best2 : Nat → Int), v_ = some (.int (iN r)) ∧ wn_ = [(mo, .inr (2, [.int (iN th), .ref am, .ref ae, .int (iN many), .ref ap, .ref ab, .ref aw, .int (iN coins), .ref ac, .ref an, .ref a0, .ref a1, .ref a2])), (am, .inl (T.2.1 0, 7, .inl (zA masses))), (ap, .inl (T.2.1 0, 7, .inl (zA placing2))), (ab, .inl (T.2.1 0, 7, .inl (zA best2)))] ∧ r = (pbsize n (pbest masses n mass (3 ^ n))) ∧ best2 = (pbplac n best (pbest masses n mass (3 ^ n)))) 0 0 := by
  refine w_X3_findBest l hlt T mo am ae ap ab aw ac an a0 a1 a2 th many coins masses placing best mass n (I7 := fun size left number pl bst => ∃ j : Nat, j ≤ 3 ^ n ∧ number = j ∧ size = pbsize n (pbest masses n mass j) ∧ left = pbleft n (pbest masses n mass j) ∧ bst = pbplac n best (pbest masses n mass j)) (M7 := fun _ _ number _ _ => ((2187 - number).toNat, 2, 0, 0))
    (I55 := fun size left number pl bst => ∃ j : Nat, j < 3 ^ n ∧ number = j ∧ pbest masses n mass (j + 1) = some j ∧ (∃ old, pl = plac n j old) ∧ (∀ i, n ≤ i → bst i = best i)) (M55 := fun _ _ number _ _ => ((2187 - number).toNat, 1, 0, 0))
    (I68 := fun size left number k pl bst => ∃ j i : Nat, j < 3 ^ n ∧ i ≤ n ∧ number = j ∧ k = i ∧ size = psize n j ∧ left = pleft n j ∧ pbest masses n mass (j + 1) = some j ∧ (∃ old, pl = plac n j old) ∧ (∀ x, n ≤ x → bst x = best x) ∧ (∀ x, x < i → bst x = trit j (n - 1 - x))) (M68 := fun _ _ number k _ _ => ((2187 - number).toNat, 0, 0, (7 - k).toNat)) _ ?_ ?_ ?_ ?_
  · exact ⟨0, Nat.zero_le _, rfl, rfl, rfl, rfl⟩
  · subst hp0
    have h3 := pow3_7 hp1
    rintro size left number pl bst ⟨j, hj, rfl, rfl, rfl, rfl⟩
    have hs := psum_in (p := j) hp2 hp1
    have hz := psize_le n j
    have hf := pleft_le n j
    have hb : -1 ≤ pbsize n (pbest masses n mass j) ∧ pbsize n (pbest masses n mass j) ≤ 7 ∧ 0 ≤ pbleft n (pbest masses n mass j) ∧ pbleft n (pbest masses n mass j) ≤ 7 := by
      cases pbest masses n mass j with
      | none => simp [pbsize, pbleft]
      | some q =>
        have := psize_le n q
        have := pleft_le n q
        simp only [pbsize, pbleft]
        omega
    refine ⟨rfl, hp1, by omega, by omega, fun h => ?_, fun h => ⟨rfl, hp1, hp2, by omega, ?_⟩⟩
    · rw [show 3 ^ n = j by omega]
      exact ⟨rfl, rfl⟩
    · simp only [Int.toNat_natCast]
      have out : ∀ i, n ≤ i → pbplac n best (pbest masses n mass j) i = best i := fun i hi => pbplac_out _ hi
      have yes : psum masses n j n = mass → (∀ q, pbest masses n mass j = some q → psize n j < psize n q ∨ (psize n j = psize n q ∧ pleft n j < pleft n q)) → pbest masses n mass (j + 1) = some j := by
        intro h1 h2
        unfold pbest
        split
        · rw [if_pos h1]
        · rename_i q hq
          rw [if_pos ⟨h1, h2 q hq⟩]
      have no : ∀ q, pbest masses n mass j = some q → ¬ (psize n j < psize n q ∨ (psize n j = psize n q ∧ pleft n j < pleft n q)) → pbest masses n mass (j + 1) = pbest masses n mass j := by
        intro q hq h2
        rw [show pbest masses n mass (j + 1) = (match pbest masses n mass j with
          | none => if psum masses n j n = mass then some j else none
          | some q => if psum masses n j n = mass ∧ (psize n j < psize n q ∨ (psize n j = psize n q ∧ pleft n j < pleft n q)) then some j else some q) from rfl, hq]
        dsimp only
        rw [if_neg (fun z => h2 z.2)]
      have no2 : ¬ psum masses n j n = mass → pbest masses n mass (j + 1) = pbest masses n mass j := by
        intro h1
        rw [show pbest masses n mass (j + 1) = (match pbest masses n mass j with
          | none => if psum masses n j n = mass then some j else none
          | some q => if psum masses n j n = mass ∧ (psize n j < psize n q ∨ (psize n j = psize n q ∧ pleft n j < pleft n q)) then some j else some q) from rfl]
        cases pbest masses n mass j with
        | none => dsimp only; rw [if_neg h1]
        | some q => dsimp only; rw [if_neg (fun z => h1 z.1)]
      have hsome : ¬ pbsize n (pbest masses n mass j) = -1 → ∃ q, pbest masses n mass j = some q := by
        intro h1
        cases hq : pbest masses n mass j with
        | none => rw [hq] at h1; exact absurd rfl h1
        | some q => exact ⟨q, rfl⟩
      refine ⟨by omega, hp3, fun h1 => ?_, fun h1 => ⟨by omega, fun h2 => ?_, fun h2 => ⟨trivial, hp1, by omega, by omega, fun h3 => ?_, fun h3 => ⟨trivial, hp1, by omega, by omega, fun h4 => ?_, fun h4 => ⟨trivial, hp1, by omega, by omega, fun h5 => ?_, fun h5 => ?_⟩⟩⟩⟩⟩
      · exact ⟨⟨j + 1, by omega, rfl, by rw [no2 h1], by rw [no2 h1], by rw [no2 h1]⟩, g_ltI (by omega)⟩
      · refine ⟨⟨j, by omega, rfl, yes h1 ?_, ⟨_, rfl⟩, out⟩, g_ltI (by omega)⟩
        intro q hq
        rw [hq] at h2
        simp only [pbsize] at h2
        omega
      · refine ⟨⟨j, by omega, rfl, yes h1 ?_, ⟨_, rfl⟩, out⟩, g_ltI (by omega)⟩
        intro q hq
        rw [hq] at h3
        simp only [pbsize] at h3
        omega
      · obtain ⟨q, hq⟩ := hsome h2
        have e := no q hq (by rw [hq] at h3 h4; simp only [pbsize] at h3 h4; omega)
        exact ⟨⟨j + 1, by omega, rfl, by rw [e], by rw [e], by rw [e]⟩, g_ltI (by omega)⟩
      · obtain ⟨q, hq⟩ := hsome h2
        have e := no q hq (by rw [hq] at h3 h4 h5; simp only [pbsize, pbleft] at h3 h4 h5; omega)
        exact ⟨⟨j + 1, by omega, rfl, by rw [e], by rw [e], by rw [e]⟩, g_ltI (by omega)⟩
      · refine ⟨⟨j, by omega, rfl, yes h1 ?_, ⟨_, rfl⟩, out⟩, g_ltI (by omega)⟩
        intro q hq
        rw [hq] at h4 h5
        simp only [pbsize, pbleft] at h4 h5
        omega
  · subst hp0
    have h3 := pow3_7 hp1
    rintro size left number pl bst ⟨j, hj, rfl, hb, ⟨old, rfl⟩, ho⟩
    rw [psize_plac, pleft_plac]
    exact ⟨rfl, hp1, plac_in, rfl, hp1, plac_in, ⟨j, 0, hj, Nat.zero_le _, rfl, rfl, rfl, rfl, hb, ⟨old, rfl⟩, ho, fun x hx => absurd hx (Nat.not_lt_zero _)⟩, g_ltI (by omega)⟩
  · subst hp0
    have h3 := pow3_7 hp1
    rintro size left number k pl bst ⟨j, i, hj, hi, rfl, rfl, rfl, rfl, hb, ⟨old, rfl⟩, ho, hx⟩
    refine ⟨by omega, by omega, fun h => ?_, fun h => ⟨by omega, by omega, ?_, g_ltI (by omega)⟩⟩
    · have e : i = n := by omega
      subst e
      refine ⟨⟨j + 1, by omega, rfl, by rw [hb]; rfl, by rw [hb]; rfl, ?_⟩, g_ltI (by omega)⟩
      rw [hb]
      funext x
      show bst x = plac i j best x
      unfold plac
      by_cases g : x < i
      · rw [if_pos g, hx x g]
      · rw [if_neg g, ho x (by omega)]
    · refine ⟨j, i + 1, hj, by omega, rfl, rfl, rfl, rfl, hb, ⟨old, rfl⟩, fun x g => ?_, fun x g => ?_⟩
      · rw [Int.toNat_natCast, va_up_ne _ _ (by omega)]
        exact ho x g
      · rw [Int.toNat_natCast]
        by_cases e : x = i
        · rw [e, va_up_self, plac_at (by omega)]
        · rw [va_up_ne _ _ e]
          exact hx x (by omega)
