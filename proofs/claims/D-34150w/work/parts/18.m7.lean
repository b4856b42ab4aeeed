set_option maxRecDepth 100000 in
set_option maxHeartbeats 4000000 in
theorem w_X3_needed (l : Launch) (hlt : l.stackTraces = false) (T : GT) (mo : Nat) (am : Nat) (ae : Nat) (ap : Nat) (ab : Nat) (aw : Nat) (ac : Nat) (an : Nat) (a0 : Nat) (a1 : Nat) (a2 : Nat) (th : Int) (many : Int) (coins : Int) (masses : Nat → Int) (placing : Nat → Int) (weighed : Nat → Bool) (mass : Int) (n : Nat) (I25 : Int → Int → Int → (Nat → Int) → (Nat → Bool) → Prop) (M25 : Int → Int → Int → (Nat → Int) → (Nat → Bool) → g_mu) (post : Int → Int → (Nat → Int) → (Nat → Bool) → Prop) (v0_ : (-2147483648 ≤ mass ∧ mass < 2147483648) ∧ (((decide (1 ≤ mass) && decide (mass ≤ 4000)) = false → (post 0 1 placing weighed)) ∧ ((decide (1 ≤ mass) && decide (mass ≤ 4000)) = true → (I25 (-1) 0 0 placing weighed)))) (v25 : ∀ (found : Int) (set : Int) (t : Int) (pl : Nat → Int) (wg : Nat → Bool), I25 found set t pl wg → (0 ≤ (1 : Int) ∧ (1 : Int) * 2 ^ many.toNat < 2147483648) ∧ ((0 ≤ many ∧ many < 32) ∧ ((-2147483648 ≤ set ∧ set < 2147483648) ∧ ((-2147483648 ≤ ((1 : Int) * 2 ^ many.toNat) ∧ ((1 : Int) * 2 ^ many.toNat) < 2147483648) ∧ ((((1 : Int) * 2 ^ many.toNat) ≤ set → (post found t pl wg)) ∧ (set < ((1 : Int) * 2 ^ many.toNat) → ((-2147483648 ≤ found ∧ found < 2147483648) ∧ ((found = (-1) → ((many = n) ∧ ((n ≤ 7) ∧ ((msOK n masses) ∧ ((0 ≤ set ∧ set < 2147483648) ∧ (∀ (placing2_3 : Nat → Int) (weighed2_4 : Nat → Bool), (wOK masses n set.toNat (3 ^ n) weighed2_4) → (-2147483648 ≤ ((firstF (fun m => canW (fun x => weighed2_4 (4000 + x).toNat) m (0 : Int)) 4000 1 : Nat) : Int) ∧ ((firstF (fun m => canW (fun x => weighed2_4 (4000 + x).toNat) m (0 : Int)) 4000 1 : Nat) : Int) < 2147483648) ∧ ((-2147483648 ≤ mass ∧ mass < 2147483648) ∧ ((((firstF (fun m => canW (fun x => weighed2_4 (4000 + x).toNat) m (0 : Int)) 4000 1 : Nat) : Int) ≤ mass → (I25 found (set + 1) t placing2_3 weighed2_4 ∧ g_lt (M25 found (set + 1) t placing2_3 weighed2_4) (M25 found set t pl wg))) ∧ (mass < ((firstF (fun m => canW (fun x => weighed2_4 (4000 + x).toNat) m (0 : Int)) 4000 1 : Nat) : Int) → (I25 set (set + 1) t placing2_3 weighed2_4 ∧ g_lt (M25 set (set + 1) t placing2_3 weighed2_4) (M25 found set t pl wg))))))))))) ∧ (¬ found = (-1) → ((0 ≤ set ∧ set < 2147483648) ∧ ((0 ≤ found ∧ found < 2147483648) ∧ ((-2147483648 ≤ ((bits9 set.toNat : Nat) : Int) ∧ ((bits9 set.toNat : Nat) : Int) < 2147483648) ∧ ((-2147483648 ≤ ((bits9 found.toNat : Nat) : Int) ∧ ((bits9 found.toNat : Nat) : Int) < 2147483648) ∧ ((((bits9 found.toNat : Nat) : Int) ≤ ((bits9 set.toNat : Nat) : Int) → (I25 found (set + 1) t pl wg ∧ g_lt (M25 found (set + 1) t pl wg) (M25 found set t pl wg))) ∧ (((bits9 set.toNat : Nat) : Int) < ((bits9 found.toNat : Nat) : Int) → ((many = n) ∧ ((n ≤ 7) ∧ ((msOK n masses) ∧ ((0 ≤ set ∧ set < 2147483648) ∧ (∀ (placing2_14 : Nat → Int) (weighed2_15 : Nat → Bool), (wOK masses n set.toNat (3 ^ n) weighed2_15) → (-2147483648 ≤ ((firstF (fun m => canW (fun x => weighed2_15 (4000 + x).toNat) m (0 : Int)) 4000 1 : Nat) : Int) ∧ ((firstF (fun m => canW (fun x => weighed2_15 (4000 + x).toNat) m (0 : Int)) 4000 1 : Nat) : Int) < 2147483648) ∧ ((-2147483648 ≤ mass ∧ mass < 2147483648) ∧ ((((firstF (fun m => canW (fun x => weighed2_15 (4000 + x).toNat) m (0 : Int)) 4000 1 : Nat) : Int) ≤ mass → (I25 found (set + 1) t placing2_14 weighed2_15 ∧ g_lt (M25 found (set + 1) t placing2_14 weighed2_15) (M25 found set t pl wg))) ∧ (mass < ((firstF (fun m => canW (fun x => weighed2_15 (4000 + x).toNat) m (0 : Int)) 4000 1 : Nat) : Int) → (I25 set (set + 1) t placing2_14 weighed2_15 ∧ g_lt (M25 set (set + 1) t placing2_14 weighed2_15) (M25 found set t pl wg))))))))))))))))))))))))) : MW l T yX3_needed cX3_needed 5 (some .int) ({ frames := 3, cells := 0, slots := 0, locals := 67 }) [.ref mo, .int (iN mass)] [(mo, .inr (2, [.int (iN th), .ref am, .ref ae, .int (iN many), .ref ap, .ref ab, .ref aw, .int (iN coins), .ref ac, .ref an, .ref a0, .ref a1, .ref a2])), (am, .inl (T.2.1 0, 7, .inl (zA masses))), (ap, .inl (T.2.1 0, 7, .inl (zA placing))), (aw, .inl (T.2.1 3, 8001, .inl (zB weighed)))] (fun v_ wn_ => ∃ (r : Int), ∃ (th2 : Int), ∃ (placing2 : Nat → Int), ∃ (weighed2 : Nat → Bool), v_ = some (.int (iN r)) ∧ wn_ = [(mo, .inr (2, [.int (iN th2), .ref am, .ref ae, .int (iN many), .ref ap, .ref ab, .ref aw, .int (iN coins), .ref ac, .ref an, .ref a0, .ref a1, .ref a2])), (am, .inl (T.2.1 0, 7, .inl (zA masses))), (ap, .inl (T.2.1 0, 7, .inl (zA placing2))), (aw, .inl (T.2.1 3, 8001, .inl (zB weighed2)))] ∧ post r th2 placing2 weighed2) 0 0 := by
  refine MW.start hlt (by decide) (lv0 := [some (.ref mo), some (.int (iN mass)), none, none, none]) rfl (Nat.le_of_ble_eq_true rfl) rfl ?_
  intro p e R s m args below meth c A cx hr hnm hST hrw
  have key : ∀ μ : g_mu, (∀ (found : Int) (set : Int) (t : Int) (pl : Nat → Int) (wg : Nat → Bool), I25 found set t pl wg → M25 found set t pl wg = μ → G p l e R s m args below meth c 5 T A A (MQ below (g_Q T (fun v_ wn_ => ∃ (r : Int), ∃ (th2 : Int), ∃ (placing2 : Nat → Int), ∃ (weighed2 : Nat → Bool), v_ = some (.int (iN r)) ∧ wn_ = [(mo, .inr (2, [.int (iN th2), .ref am, .ref ae, .int (iN many), .ref ap, .ref ab, .ref aw, .int (iN coins), .ref ac, .ref an, .ref a0, .ref a1, .ref a2])), (am, .inl (T.2.1 0, 7, .inl (zA masses))), (ap, .inl (T.2.1 0, 7, .inl (zA placing2))), (aw, .inl (T.2.1 3, 8001, .inl (zB weighed2)))] ∧ post r th2 placing2 weighed2) A) args s 0 0 A) 0 0 [(mo, .inr (2, [.int (iN t), .ref am, .ref ae, .int (iN many), .ref ap, .ref ab, .ref aw, .int (iN coins), .ref ac, .ref an, .ref a0, .ref a1, .ref a2])), (am, .inl (T.2.1 0, 7, .inl (zA masses))), (ap, .inl (T.2.1 0, 7, .inl (zA pl))), (aw, .inl (T.2.1 3, 8001, .inl (zB wg)))] [some (.ref mo), some (.int (iN mass)), some (.int (iN found)), some (.int (iN set)), none] 25 []) := by
    refine g_ind (fun μ ih => ?_)
    · intro found set t pl wg hI hM
      subst hM
      have vc := v25 found set t pl wg hI
      refine g_iload_n (q := 26) cx dX3_needed_25 rfl rfl ?_
      refine g_iconst (q := 27) (v := iN 1) cx dX3_needed_26 rfl rfl ?_
      refine g_aload_n (q := 28) cx dX3_needed_27 rfl rfl ?_
      refine g_get (q := 31) cx k_cX3 0 rfl 3 (by decide) q1073 (Or.inl rfl) rfl dX3_needed_28 rfl ?_
      refine g_ishlZ (q := 32) cx vc.1 vc.2.1 dX3_needed_31 rfl ?_
      have vc := vc.2
      have vc := vc.2
      refine g_icmp_geZ (q := 35) (tg := 89) cx vc.1 vc.2.1 dX3_needed_32 (by decide) rfl (fun h_1 => ?_) (fun h_1 => ?_)
      · have vc := vc.2.2.1 h_1
        refine g_iload_n (q := 90) cx dX3_needed_89 rfl rfl ?_
        exact g_iretW cx hr rfl ⟨found, t, pl, wg, rfl, rfl, vc⟩ (by first | exact Nat.le_of_ble_eq_true rfl | omega) (by first | exact Nat.le_of_ble_eq_true rfl | omega) dX3_needed_90
      · have vc := vc.2.2.2 h_1
        refine g_iload_n (q := 36) cx dX3_needed_35 rfl rfl ?_
        refine g_iconst (q := 37) (v := iN (-1)) cx dX3_needed_36 rfl rfl ?_
        refine g_icmp_eqZ (q := 40) (tg := 51) cx vc.1 (by decide) dX3_needed_37 (by decide) rfl (fun h_2 => ?_) (fun h_2 => ?_)
        · have vc := vc.2.1 h_2
          refine g_iconst (q := 52) (v := iN 1) cx dX3_needed_51 rfl rfl ?_
          refine g_goto (q := 56) cx dX3_needed_52 (by decide) ?_
          refine g_istore (q := 58) (lv2 := [some (.ref mo), some (.int (iN mass)), some (.int (iN found)), some (.int (iN set)), some (.int (iN 1))]) cx dX3_needed_56 (by decide) rfl rfl ?_
          refine g_iload (q := 60) cx dX3_needed_58 rfl rfl ?_
          refine g_if_eq (q := 63) (tg := 83) cx dX3_needed_60 (by decide) rfl (fun h => absurd h (by decide)) (fun _ => ?_)
          refine g_aload_n (q := 64) cx dX3_needed_63 rfl rfl ?_
          refine g_iload_n (q := 65) cx dX3_needed_64 rfl rfl ?_
          refine g_cVw (q := 68) (b := mo) (As := [.int (iN set)]) (wr := []) (st := []) cx hST hrw (k_X3_layWeighed l hlt T mo am ae ap ab aw ac an a0 a1 a2 t many coins masses pl wg set n (vc.1) (vc.2.1) (vc.2.2.1) (vc.2.2.2.1)) q1205 s_X3_layWeighed rfl 0 rfl rfl g_perm1 (g_rmB rfl) (Nat.le_of_ble_eq_true rfl) dX3_needed_65 rfl (fun v_ wn_ hv_ => ?_)
          have vc := vc.2
          have vc := vc.2
          have vc := vc.2
          have vc := vc.2
          obtain ⟨placing2_3, weighed2_4, rfl, rfl, e_5⟩ := hv_
          have e_5 := e_5
          refine g_cs (cells2 := 0) (slots2 := 0) (ws2 := [(mo, .inr (2, [.int (iN t), .ref am, .ref ae, .int (iN many), .ref ap, .ref ab, .ref aw, .int (iN coins), .ref ac, .ref an, .ref a0, .ref a1, .ref a2])), (am, .inl (T.2.1 0, 7, .inl (zA masses))), (ap, .inl (T.2.1 0, 7, .inl (zA placing2_3))), (aw, .inl (T.2.1 3, 8001, .inl (zB weighed2_4)))]) rfl rfl rfl ?_
          refine g_st (st2 := []) rfl ?_
          have vc := vc placing2_3 weighed2_4 e_5
          refine g_aload_n (q := 69) cx dX3_needed_68 rfl rfl ?_
          refine g_iconst (q := 70) (v := iN 0) cx dX3_needed_69 rfl rfl ?_
          refine g_cVr (q := 73) (b := mo) (As := [.int (iN 0)]) (wr := [(am, .inl (T.2.1 0, 7, .inl (zA masses))), (ap, .inl (T.2.1 0, 7, .inl (zA placing2_3)))]) (st := []) cx hST (k_X3_gapWith l hlt T mo am ae ap ab aw ac an a0 a1 a2 t many coins weighed2_4 0 (by decide)) q1212 s_X3_gapWith rfl 0 rfl rfl (g_perm [1, 2, 0, 3] rfl rfl) (g_rmB rfl) (Nat.le_of_ble_eq_true rfl) dX3_needed_70 rfl (fun v_ hv_ => ?_)
          obtain ⟨r_6, rfl, e_7⟩ := hv_
          subst e_7
          refine g_st (st2 := [.int (iN ((firstF (fun m => canW (fun x => weighed2_4 (4000 + x).toNat) m (0 : Int)) 4000 1 : Nat) : Int))]) rfl ?_
          refine g_iload_n (q := 74) cx dX3_needed_73 rfl rfl ?_
          refine g_icmp_leZ (q := 77) (tg := 81) cx vc.1 vc.2.1 dX3_needed_74 (by decide) rfl (fun h_8 => ?_) (fun h_8 => ?_)
          · have vc := vc.2.2.1 h_8
            refine g_iload_n (q := 82) cx dX3_needed_81 rfl rfl ?_
            refine g_istore_n (q := 83) (lv2 := [some (.ref mo), some (.int (iN mass)), some (.int (iN found)), some (.int (iN set)), some (.int (iN 1))]) cx dX3_needed_82 rfl (by decide) rfl rfl ?_
            refine g_iinc (q := 86) (v := iN (set + 1)) (lv2 := [some (.ref mo), some (.int (iN mass)), some (.int (iN found)), some (.int (iN (set + 1))), some (.int (iN 1))]) cx dX3_needed_83 rfl (iN_add _ _) (by decide) rfl rfl ?_
            refine g_goto (q := 25) cx dX3_needed_86 (by decide) ?_
            refine g_wk (lv2 := [some (.ref mo), some (.int (iN mass)), some (.int (iN found)), some (.int (iN (set + 1))), none]) ⟨rfl, ⟨rfl, ⟨rfl, ⟨rfl, trivial⟩⟩⟩⟩ ?_
            exact (ih _ vc.2) found (set + 1) t placing2_3 weighed2_4 vc.1 rfl
          · have vc := vc.2.2.2 h_8
            refine g_iload_n (q := 78) cx dX3_needed_77 rfl rfl ?_
            refine g_goto (q := 82) cx dX3_needed_78 (by decide) ?_
            refine g_istore_n (q := 83) (lv2 := [some (.ref mo), some (.int (iN mass)), some (.int (iN set)), some (.int (iN set)), some (.int (iN 1))]) cx dX3_needed_82 rfl (by decide) rfl rfl ?_
            refine g_iinc (q := 86) (v := iN (set + 1)) (lv2 := [some (.ref mo), some (.int (iN mass)), some (.int (iN set)), some (.int (iN (set + 1))), some (.int (iN 1))]) cx dX3_needed_83 rfl (iN_add _ _) (by decide) rfl rfl ?_
            refine g_goto (q := 25) cx dX3_needed_86 (by decide) ?_
            refine g_wk (lv2 := [some (.ref mo), some (.int (iN mass)), some (.int (iN set)), some (.int (iN (set + 1))), none]) ⟨rfl, ⟨rfl, ⟨rfl, ⟨rfl, trivial⟩⟩⟩⟩ ?_
            exact (ih _ vc.2) set (set + 1) t placing2_3 weighed2_4 vc.1 rfl
        · have vc := vc.2.2 h_2
          refine g_iload_n (q := 41) cx dX3_needed_40 rfl rfl ?_
          refine g_cSr (q := 44) (As := [.int (iN set)]) (wr := [(mo, .inr (2, [.int (iN t), .ref am, .ref ae, .int (iN many), .ref ap, .ref ab, .ref aw, .int (iN coins), .ref ac, .ref an, .ref a0, .ref a1, .ref a2])), (am, .inl (T.2.1 0, 7, .inl (zA masses))), (ap, .inl (T.2.1 0, 7, .inl (zA pl))), (aw, .inl (T.2.1 3, 8001, .inl (zB wg)))]) (st := []) cx hST (k_X3_bitsOf l hlt T set (vc.1)) q1228 s_X3_bitsOf rfl g_perm0 (g_rmB rfl) (Nat.le_of_ble_eq_true rfl) dX3_needed_41 rfl (fun v_ hv_ => ?_)
          have vc := vc.2
          obtain ⟨r_9, rfl, e_10⟩ := hv_
          subst e_10
          refine g_st (st2 := [.int (iN ((bits9 set.toNat : Nat) : Int))]) rfl ?_
          refine g_iload_n (q := 45) cx dX3_needed_44 rfl rfl ?_
          refine g_cSr (q := 48) (As := [.int (iN found)]) (wr := [(mo, .inr (2, [.int (iN t), .ref am, .ref ae, .int (iN many), .ref ap, .ref ab, .ref aw, .int (iN coins), .ref ac, .ref an, .ref a0, .ref a1, .ref a2])), (am, .inl (T.2.1 0, 7, .inl (zA masses))), (ap, .inl (T.2.1 0, 7, .inl (zA pl))), (aw, .inl (T.2.1 3, 8001, .inl (zB wg)))]) (st := [.int (iN ((bits9 set.toNat : Nat) : Int))]) cx hST (k_X3_bitsOf l hlt T found (vc.1)) q1228 s_X3_bitsOf rfl g_perm0 (g_rmB rfl) (Nat.le_of_ble_eq_true rfl) dX3_needed_45 rfl (fun v_ hv_ => ?_)
          have vc := vc.2
          obtain ⟨r_11, rfl, e_12⟩ := hv_
          subst e_12
          refine g_st (st2 := [.int (iN ((bits9 found.toNat : Nat) : Int)), .int (iN ((bits9 set.toNat : Nat) : Int))]) rfl ?_
          refine g_icmp_geZ (q := 51) (tg := 55) cx vc.1 vc.2.1 dX3_needed_48 (by decide) rfl (fun h_13 => ?_) (fun h_13 => ?_)
          · have vc := vc.2.2.1 h_13
            refine g_iconst (q := 56) (v := iN 0) cx dX3_needed_55 rfl rfl ?_
            refine g_istore (q := 58) (lv2 := [some (.ref mo), some (.int (iN mass)), some (.int (iN found)), some (.int (iN set)), some (.int (iN 0))]) cx dX3_needed_56 (by decide) rfl rfl ?_
            refine g_iload (q := 60) cx dX3_needed_58 rfl rfl ?_
            refine g_if_eq (q := 63) (tg := 83) cx dX3_needed_60 (by decide) rfl (fun _ => ?_) (fun h => absurd h (by decide))
            refine g_iinc (q := 86) (v := iN (set + 1)) (lv2 := [some (.ref mo), some (.int (iN mass)), some (.int (iN found)), some (.int (iN (set + 1))), some (.int (iN 0))]) cx dX3_needed_83 rfl (iN_add _ _) (by decide) rfl rfl ?_
            refine g_goto (q := 25) cx dX3_needed_86 (by decide) ?_
            refine g_wk (lv2 := [some (.ref mo), some (.int (iN mass)), some (.int (iN found)), some (.int (iN (set + 1))), none]) ⟨rfl, ⟨rfl, ⟨rfl, ⟨rfl, trivial⟩⟩⟩⟩ ?_
            exact (ih _ vc.2) found (set + 1) t pl wg vc.1 rfl
          · have vc := vc.2.2.2 h_13
            refine g_iconst (q := 52) (v := iN 1) cx dX3_needed_51 rfl rfl ?_
            refine g_goto (q := 56) cx dX3_needed_52 (by decide) ?_
            refine g_istore (q := 58) (lv2 := [some (.ref mo), some (.int (iN mass)), some (.int (iN found)), some (.int (iN set)), some (.int (iN 1))]) cx dX3_needed_56 (by decide) rfl rfl ?_
            refine g_iload (q := 60) cx dX3_needed_58 rfl rfl ?_
            refine g_if_eq (q := 63) (tg := 83) cx dX3_needed_60 (by decide) rfl (fun h => absurd h (by decide)) (fun _ => ?_)
            refine g_aload_n (q := 64) cx dX3_needed_63 rfl rfl ?_
            refine g_iload_n (q := 65) cx dX3_needed_64 rfl rfl ?_
            refine g_cVw (q := 68) (b := mo) (As := [.int (iN set)]) (wr := []) (st := []) cx hST hrw (k_X3_layWeighed l hlt T mo am ae ap ab aw ac an a0 a1 a2 t many coins masses pl wg set n (vc.1) (vc.2.1) (vc.2.2.1) (vc.2.2.2.1)) q1205 s_X3_layWeighed rfl 0 rfl rfl g_perm1 (g_rmB rfl) (Nat.le_of_ble_eq_true rfl) dX3_needed_65 rfl (fun v_ wn_ hv_ => ?_)
            have vc := vc.2
            have vc := vc.2
            have vc := vc.2
            have vc := vc.2
            obtain ⟨placing2_14, weighed2_15, rfl, rfl, e_16⟩ := hv_
            have e_16 := e_16
            refine g_cs (cells2 := 0) (slots2 := 0) (ws2 := [(mo, .inr (2, [.int (iN t), .ref am, .ref ae, .int (iN many), .ref ap, .ref ab, .ref aw, .int (iN coins), .ref ac, .ref an, .ref a0, .ref a1, .ref a2])), (am, .inl (T.2.1 0, 7, .inl (zA masses))), (ap, .inl (T.2.1 0, 7, .inl (zA placing2_14))), (aw, .inl (T.2.1 3, 8001, .inl (zB weighed2_15)))]) rfl rfl rfl ?_
            refine g_st (st2 := []) rfl ?_
            have vc := vc placing2_14 weighed2_15 e_16
            refine g_aload_n (q := 69) cx dX3_needed_68 rfl rfl ?_
            refine g_iconst (q := 70) (v := iN 0) cx dX3_needed_69 rfl rfl ?_
            refine g_cVr (q := 73) (b := mo) (As := [.int (iN 0)]) (wr := [(am, .inl (T.2.1 0, 7, .inl (zA masses))), (ap, .inl (T.2.1 0, 7, .inl (zA placing2_14)))]) (st := []) cx hST (k_X3_gapWith l hlt T mo am ae ap ab aw ac an a0 a1 a2 t many coins weighed2_15 0 (by decide)) q1212 s_X3_gapWith rfl 0 rfl rfl (g_perm [1, 2, 0, 3] rfl rfl) (g_rmB rfl) (Nat.le_of_ble_eq_true rfl) dX3_needed_70 rfl (fun v_ hv_ => ?_)
            obtain ⟨r_17, rfl, e_18⟩ := hv_
            subst e_18
            refine g_st (st2 := [.int (iN ((firstF (fun m => canW (fun x => weighed2_15 (4000 + x).toNat) m (0 : Int)) 4000 1 : Nat) : Int))]) rfl ?_
            refine g_iload_n (q := 74) cx dX3_needed_73 rfl rfl ?_
            refine g_icmp_leZ (q := 77) (tg := 81) cx vc.1 vc.2.1 dX3_needed_74 (by decide) rfl (fun h_19 => ?_) (fun h_19 => ?_)
            · have vc := vc.2.2.1 h_19
              refine g_iload_n (q := 82) cx dX3_needed_81 rfl rfl ?_
              refine g_istore_n (q := 83) (lv2 := [some (.ref mo), some (.int (iN mass)), some (.int (iN found)), some (.int (iN set)), some (.int (iN 1))]) cx dX3_needed_82 rfl (by decide) rfl rfl ?_
              refine g_iinc (q := 86) (v := iN (set + 1)) (lv2 := [some (.ref mo), some (.int (iN mass)), some (.int (iN found)), some (.int (iN (set + 1))), some (.int (iN 1))]) cx dX3_needed_83 rfl (iN_add _ _) (by decide) rfl rfl ?_
              refine g_goto (q := 25) cx dX3_needed_86 (by decide) ?_
              refine g_wk (lv2 := [some (.ref mo), some (.int (iN mass)), some (.int (iN found)), some (.int (iN (set + 1))), none]) ⟨rfl, ⟨rfl, ⟨rfl, ⟨rfl, trivial⟩⟩⟩⟩ ?_
              exact (ih _ vc.2) found (set + 1) t placing2_14 weighed2_15 vc.1 rfl
            · have vc := vc.2.2.2 h_19
              refine g_iload_n (q := 78) cx dX3_needed_77 rfl rfl ?_
              refine g_goto (q := 82) cx dX3_needed_78 (by decide) ?_
              refine g_istore_n (q := 83) (lv2 := [some (.ref mo), some (.int (iN mass)), some (.int (iN set)), some (.int (iN set)), some (.int (iN 1))]) cx dX3_needed_82 rfl (by decide) rfl rfl ?_
              refine g_iinc (q := 86) (v := iN (set + 1)) (lv2 := [some (.ref mo), some (.int (iN mass)), some (.int (iN set)), some (.int (iN (set + 1))), some (.int (iN 1))]) cx dX3_needed_83 rfl (iN_add _ _) (by decide) rfl rfl ?_
              refine g_goto (q := 25) cx dX3_needed_86 (by decide) ?_
              refine g_wk (lv2 := [some (.ref mo), some (.int (iN mass)), some (.int (iN set)), some (.int (iN (set + 1))), none]) ⟨rfl, ⟨rfl, ⟨rfl, ⟨rfl, trivial⟩⟩⟩⟩ ?_
              exact (ih _ vc.2) set (set + 1) t placing2_14 weighed2_15 vc.1 rfl
  have vc := v0_
  refine g_aload_n (q := 1) cx dX3_needed_0 rfl rfl ?_
  refine g_iload_n (q := 2) cx dX3_needed_1 rfl rfl ?_
  refine g_cSr (q := 5) (As := [.int (iN mass)]) (wr := [(mo, .inr (2, [.int (iN th), .ref am, .ref ae, .int (iN many), .ref ap, .ref ab, .ref aw, .int (iN coins), .ref ac, .ref an, .ref a0, .ref a1, .ref a2])), (am, .inl (T.2.1 0, 7, .inl (zA masses))), (ap, .inl (T.2.1 0, 7, .inl (zA placing))), (aw, .inl (T.2.1 3, 8001, .inl (zB weighed)))]) (st := [.ref mo]) cx hST (k_X3_isMass l hlt T mass (vc.1)) q1146 s_X3_isMass rfl g_perm0 (g_rmB rfl) (Nat.le_of_ble_eq_true rfl) dX3_needed_2 rfl (fun v_ hv_ => ?_)
  have vc := vc.2
  obtain ⟨b_20, rfl, e_21⟩ := hv_
  subst e_21
  refine g_st (st2 := [.int (bI (decide (1 ≤ mass) && decide (mass ≤ 4000))), .ref mo]) rfl ?_
  refine g_if_eq (q := 8) (tg := 12) cx dX3_needed_5 (by decide) rfl (fun h_22 => ?_) (fun h_22 => ?_)
  · have vc := vc.1 (bI_0.mp h_22)
    refine g_iconst (q := 13) (v := iN 1) cx dX3_needed_12 rfl rfl ?_
    refine g_cVw (q := 16) (b := mo) (As := [.int (iN 1)]) (wr := [(am, .inl (T.2.1 0, 7, .inl (zA masses))), (ap, .inl (T.2.1 0, 7, .inl (zA placing))), (aw, .inl (T.2.1 3, 8001, .inl (zB weighed)))]) (st := []) cx hST hrw (k_X3_goesWell l hlt T mo am ae ap ab aw ac an a0 a1 a2 th many coins 1 (by decide)) q1122 s_X3_goesWell rfl 0 rfl rfl (g_perm [1, 2, 3, 0] rfl rfl) (g_rmB rfl) (Nat.le_of_ble_eq_true rfl) dX3_needed_13 rfl (fun v_ wn_ hv_ => ?_)
    obtain ⟨b_23, th2_24, rfl, rfl, e_25⟩ := hv_
    obtain ⟨rfl, rfl⟩ := e_25
    refine g_wp (ws2 := [(mo, .inr (2, [.int (iN 1), .ref am, .ref ae, .int (iN many), .ref ap, .ref ab, .ref aw, .int (iN coins), .ref ac, .ref an, .ref a0, .ref a1, .ref a2])), (am, .inl (T.2.1 0, 7, .inl (zA masses))), (ap, .inl (T.2.1 0, 7, .inl (zA placing))), (aw, .inl (T.2.1 3, 8001, .inl (zB weighed)))]) (g_perm [3, 0, 1, 2] rfl rfl) ?_
    refine g_cs (cells2 := 0) (slots2 := 0) (ws2 := [(mo, .inr (2, [.int (iN 1), .ref am, .ref ae, .int (iN many), .ref ap, .ref ab, .ref aw, .int (iN coins), .ref ac, .ref an, .ref a0, .ref a1, .ref a2])), (am, .inl (T.2.1 0, 7, .inl (zA masses))), (ap, .inl (T.2.1 0, 7, .inl (zA placing))), (aw, .inl (T.2.1 3, 8001, .inl (zB weighed)))]) rfl rfl rfl ?_
    refine g_st (st2 := [.int (bI false)]) rfl ?_
    refine g_if_ne (q := 19) (tg := 21) cx dX3_needed_16 (by decide) rfl (fun h => absurd h (by decide)) (fun _ => ?_)
    refine g_iconst (q := 20) (v := iN 0) cx dX3_needed_19 rfl rfl ?_
    exact g_iretW cx hr rfl ⟨0, 1, placing, weighed, rfl, rfl, vc⟩ (by first | exact Nat.le_of_ble_eq_true rfl | omega) (by first | exact Nat.le_of_ble_eq_true rfl | omega) dX3_needed_20
  · have vc := vc.2 (bI_n0.mp h_22)
    refine g_iconst (q := 9) (v := iN 0) cx dX3_needed_8 rfl rfl ?_
    refine g_goto (q := 13) cx dX3_needed_9 (by decide) ?_
    refine g_cVw (q := 16) (b := mo) (As := [.int (iN 0)]) (wr := [(am, .inl (T.2.1 0, 7, .inl (zA masses))), (ap, .inl (T.2.1 0, 7, .inl (zA placing))), (aw, .inl (T.2.1 3, 8001, .inl (zB weighed)))]) (st := []) cx hST hrw (k_X3_goesWell l hlt T mo am ae ap ab aw ac an a0 a1 a2 th many coins 0 (by decide)) q1122 s_X3_goesWell rfl 0 rfl rfl (g_perm [1, 2, 3, 0] rfl rfl) (g_rmB rfl) (Nat.le_of_ble_eq_true rfl) dX3_needed_13 rfl (fun v_ wn_ hv_ => ?_)
    obtain ⟨b_26, th2_27, rfl, rfl, e_28⟩ := hv_
    obtain ⟨rfl, rfl⟩ := e_28
    refine g_wp (ws2 := [(mo, .inr (2, [.int (iN 0), .ref am, .ref ae, .int (iN many), .ref ap, .ref ab, .ref aw, .int (iN coins), .ref ac, .ref an, .ref a0, .ref a1, .ref a2])), (am, .inl (T.2.1 0, 7, .inl (zA masses))), (ap, .inl (T.2.1 0, 7, .inl (zA placing))), (aw, .inl (T.2.1 3, 8001, .inl (zB weighed)))]) (g_perm [3, 0, 1, 2] rfl rfl) ?_
    refine g_cs (cells2 := 0) (slots2 := 0) (ws2 := [(mo, .inr (2, [.int (iN 0), .ref am, .ref ae, .int (iN many), .ref ap, .ref ab, .ref aw, .int (iN coins), .ref ac, .ref an, .ref a0, .ref a1, .ref a2])), (am, .inl (T.2.1 0, 7, .inl (zA masses))), (ap, .inl (T.2.1 0, 7, .inl (zA placing))), (aw, .inl (T.2.1 3, 8001, .inl (zB weighed)))]) rfl rfl rfl ?_
    refine g_st (st2 := [.int (bI true)]) rfl ?_
    refine g_if_ne (q := 19) (tg := 21) cx dX3_needed_16 (by decide) rfl (fun _ => ?_) (fun h => absurd h (by decide))
    refine g_iconst (q := 22) (v := iN (-1)) cx dX3_needed_21 rfl rfl ?_
    refine g_istore_n (q := 23) (lv2 := [some (.ref mo), some (.int (iN mass)), some (.int (iN (-1))), none, none]) cx dX3_needed_22 rfl (by decide) rfl rfl ?_
    refine g_iconst (q := 24) (v := iN 0) cx dX3_needed_23 rfl rfl ?_
    refine g_istore_n (q := 25) (lv2 := [some (.ref mo), some (.int (iN mass)), some (.int (iN (-1))), some (.int (iN 0)), none]) cx dX3_needed_24 rfl (by decide) rfl rfl ?_
    exact (key _) (-1) 0 0 placing weighed vc rfl

theorem k_X3_needed (l : Launch) (hlt : l.stackTraces = false) (T : GT) (mo : Nat) (am : Nat) (ae : Nat) (ap : Nat) (ab : Nat) (aw : Nat) (ac : Nat) (an : Nat) (a0 : Nat) (a1 : Nat) (a2 : Nat) (th : Int) (many : Int) (coins : Int) (masses : Nat → Int) (placing : Nat → Int) (weighed : Nat → Bool) (mass : Int) (n : Nat) (hp0 : many = n) (hp1 : n ≤ 7) (hp2 : msOK n masses) (hp3 : -2147483648 ≤ mass ∧ mass < 2147483648) : MW l T yX3_needed cX3_needed 5 (some .int) ({ frames := 3, cells := 0, slots := 0, locals := 67 }) [.ref mo, .int (iN mass)] [(mo, .inr (2, [.int (iN th), .ref am, .ref ae, .int (iN many), .ref ap, .ref ab, .ref aw, .int (iN coins), .ref ac, .ref an, .ref a0, .ref a1, .ref a2])), (am, .inl (T.2.1 0, 7, .inl (zA masses))), (ap, .inl (T.2.1 0, 7, .inl (zA placing))), (aw, .inl (T.2.1 3, 8001, .inl (zB weighed)))] (fun v_ wn_ => ∃ (r : Int), ∃ (th2 : Int), ∃ (placing2 : Nat → Int), ∃ (weighed2 : Nat → Bool), v_ = some (.int (iN r)) ∧ wn_ = [(mo, .inr (2, [.int (iN th2), .ref am, .ref ae, .int (iN many), .ref ap, .ref ab, .ref aw, .int (iN coins), .ref ac, .ref an, .ref a0, .ref a1, .ref a2])), (am, .inl (T.2.1 0, 7, .inl (zA masses))), (ap, .inl (T.2.1 0, 7, .inl (zA placing2))), (aw, .inl (T.2.1 3, 8001, .inl (zB weighed2)))] ∧ r = (if 1 ≤ mass ∧ mass ≤ 4000 then pneed masses n mass (2 ^ n) else 0) ∧ th2 = (if 1 ≤ mass ∧ mass ≤ 4000 then 0 else 1)) 0 0 := by
  refine w_X3_needed l hlt T mo am ae ap ab aw ac an a0 a1 a2 th many coins masses placing weighed mass n (I25 := fun found set t pl wg => ∃ j : Nat, j ≤ 2 ^ n ∧ set = j ∧ t = 0 ∧ (1 ≤ mass ∧ mass ≤ 4000) ∧ found = pneed masses n mass j) (M25 := fun _ set _ _ _ => (0, 0, 0, (128 - set).toNat)) _ ?_ ?_
  · refine ⟨hp3, fun h => ?_, fun h => ?_⟩
    all_goals (simp only [Bool.and_eq_true, Bool.and_eq_false_iff, decide_eq_true_eq, decide_eq_false_iff_not] at h)
    · exact ⟨by rw [if_neg (by omega)], by rw [if_neg (by omega)]⟩
    · exact ⟨0, Nat.zero_le _, rfl, rfl, h, rfl⟩
  · subst hp0
    have h3 := pow2_7 hp1
    rintro found set t pl wg ⟨j, hj, rfl, rfl, hm, rfl⟩
    have e2 : ((1 : Int) * 2 ^ ((n : Nat) : Int).toNat) = ((2 ^ n : Nat) : Int) := by
      rw [Int.toNat_natCast, Int.one_mul]
      exact (Int.natCast_pow 2 n).symm
    rw [e2]
    have hb := pneed_in (ms := masses) (n := n) (mass := mass) j
    have hbits : ∀ x : Nat, bits9 x ≤ 9 := fun x => cntB_le _ _
    have b1 := hbits j
    have b3 := hbits ((j : Int).toNat)
    have b2 := hbits (pneed masses n mass j).toNat
    have hg := firstF_in (P := fun m => canW (wsum masses n j (3 ^ n)) m 0) 4000 1
    have stp : pneed masses n mass (j + 1) = if (pneed masses n mass j = -1 ∨ bits9 j < bits9 (pneed masses n mass j).toNat) ∧ mass < (pgap masses n j 0 : Nat) then (j : Int) else pneed masses n mass j := rfl
    have go : ∀ (wg2 : Nat → Bool), wOK masses n j (3 ^ n) wg2 → firstF (fun m => canW (fun x => wg2 (4000 + x).toNat) m 0) 4000 1 = pgap masses n j 0 := fun wg2 hw => gapW hw (by omega)
    have hgp : 1 ≤ pgap masses n j 0 ∧ pgap masses n j 0 ≤ 4001 := hg
    refine ⟨by omega, by omega, by omega, by omega, fun h => ?_, fun h => ⟨by omega, fun h1 => ⟨rfl, hp1, hp2, by omega, fun pl2 wg2 hw => ?_⟩, fun h1 => ⟨by omega, by omega, by omega, by omega, fun h2 => ?_, fun h2 => ⟨rfl, hp1, hp2, by omega, fun pl2 wg2 hw => ?_⟩⟩⟩⟩
    · rw [show 2 ^ n = j by omega, if_pos hm, if_pos hm]
      exact ⟨rfl, rfl⟩
    · rw [Int.toNat_natCast] at hw
      rw [go wg2 hw]
      refine ⟨by omega, by omega, fun h4 => ?_, fun h4 => ?_⟩
      · exact ⟨⟨j + 1, by omega, rfl, rfl, hm, by rw [stp, if_neg (by omega)]⟩, g_ltI (by omega)⟩
      · exact ⟨⟨j + 1, by omega, rfl, rfl, hm, by rw [stp, if_pos ⟨Or.inl h1, h4⟩]⟩, g_ltI (by omega)⟩
    · rw [Int.toNat_natCast] at h2
      exact ⟨⟨j + 1, by omega, rfl, rfl, hm, by rw [stp, if_neg (by omega)]⟩, g_ltI (by omega)⟩
    · rw [Int.toNat_natCast] at hw h2
      rw [go wg2 hw]
      refine ⟨by omega, by omega, fun h4 => ?_, fun h4 => ?_⟩
      · exact ⟨⟨j + 1, by omega, rfl, rfl, hm, by rw [stp, if_neg (by omega)]⟩, g_ltI (by omega)⟩
      · exact ⟨⟨j + 1, by omega, rfl, rfl, hm, by rw [stp, if_pos ⟨Or.inr (by omega), h4⟩]⟩, g_ltI (by omega)⟩

set_option maxRecDepth 100000 in
set_option maxHeartbeats 4000000 in
theorem w_X3_bestMore (l : Launch) (hlt : l.stackTraces = false) (T : GT) (mo : Nat) (am : Nat) (ae : Nat) (ap : Nat) (ab : Nat) (aw : Nat) (ac : Nat) (an : Nat) (a0 : Nat) (a1 : Nat) (a2 : Nat) (th : Int) (many : Int) (coins : Int) (masses : Nat → Int) (placing : Nat → Int) (weighed : Nat → Bool) (n : Nat) (I41 : Int → Int → Int → Int → (Nat → Int) → (Nat → Bool) → Prop) (M41 : Int → Int → Int → Int → (Nat → Int) → (Nat → Bool) → g_mu) (post : Int → Int → (Nat → Int) → (Nat → Bool) → Prop) (v0_ : (-2147483648 ≤ many ∧ many < 2147483648) ∧ ((¬ many = 7 → ((0 ≤ (1 : Int) ∧ (1 : Int) * 2 ^ many.toNat < 2147483648) ∧ ((0 ≤ many ∧ many < 32) ∧ ((many = n) ∧ ((n ≤ 7) ∧ ((msOK n masses) ∧ ((0 ≤ (((1 : Int) * 2 ^ many.toNat) - 1) ∧ (((1 : Int) * 2 ^ many.toNat) - 1) < 2147483648) ∧ (∀ (placing2_11 : Nat → Int) (weighed2_12 : Nat → Bool), (wOK masses n (((1 : Int) * 2 ^ many.toNat) - 1).toNat (3 ^ n) weighed2_12) → I41 0 0 1 0 placing2_11 weighed2_12)))))))) ∧ (many = 7 → (post 0 1 placing weighed)))) (v41 : ∀ (most : Int) (found : Int) (more : Int) (t : Int) (pl : Nat → Int) (wg : Nat → Bool), I41 most found more t pl wg → (-2147483648 ≤ more ∧ more < 2147483648) ∧ ((500 < more → (post found t pl wg)) ∧ (more ≤ 500 → ((0 ≤ more ∧ more ≤ 500) ∧ ((-2147483648 ≤ ((firstF (fun m => canW (fun x => wg (4000 + x).toNat) m more) 4000 1 : Nat) : Int) ∧ ((firstF (fun m => canW (fun x => wg (4000 + x).toNat) m more) 4000 1 : Nat) : Int) < 2147483648) ∧ ((-2147483648 ≤ most ∧ most < 2147483648) ∧ ((((firstF (fun m => canW (fun x => wg (4000 + x).toNat) m more) 4000 1 : Nat) : Int) ≤ most → ((-2147483648 ≤ ((firstF (fun m => canW (fun x => wg (4000 + x).toNat) m more) 4000 1 : Nat) : Int) ∧ ((firstF (fun m => canW (fun x => wg (4000 + x).toNat) m more) 4000 1 : Nat) : Int) < 2147483648) ∧ ((-2147483648 ≤ most ∧ most < 2147483648) ∧ ((((firstF (fun m => canW (fun x => wg (4000 + x).toNat) m more) 4000 1 : Nat) : Int) ≤ most → (I41 most found (more + 1) t pl wg ∧ g_lt (M41 most found (more + 1) t pl wg) (M41 most found more t pl wg))) ∧ (most < ((firstF (fun m => canW (fun x => wg (4000 + x).toNat) m more) 4000 1 : Nat) : Int) → (I41 ((firstF (fun m => canW (fun x => wg (4000 + x).toNat) m more) 4000 1 : Nat) : Int) found (more + 1) t pl wg ∧ g_lt (M41 ((firstF (fun m => canW (fun x => wg (4000 + x).toNat) m more) 4000 1 : Nat) : Int) found (more + 1) t pl wg) (M41 most found more t pl wg))))))) ∧ (most < ((firstF (fun m => canW (fun x => wg (4000 + x).toNat) m more) 4000 1 : Nat) : Int) → ((-2147483648 ≤ ((firstF (fun m => canW (fun x => wg (4000 + x).toNat) m more) 4000 1 : Nat) : Int) ∧ ((firstF (fun m => canW (fun x => wg (4000 + x).toNat) m more) 4000 1 : Nat) : Int) < 2147483648) ∧ ((-2147483648 ≤ most ∧ most < 2147483648) ∧ ((((firstF (fun m => canW (fun x => wg (4000 + x).toNat) m more) 4000 1 : Nat) : Int) ≤ most → (I41 most more (more + 1) t pl wg ∧ g_lt (M41 most more (more + 1) t pl wg) (M41 most found more t pl wg))) ∧ (most < ((firstF (fun m => canW (fun x => wg (4000 + x).toNat) m more) 4000 1 : Nat) : Int) → (I41 ((firstF (fun m => canW (fun x => wg (4000 + x).toNat) m more) 4000 1 : Nat) : Int) more (more + 1) t pl wg ∧ g_lt (M41 ((firstF (fun m => canW (fun x => wg (4000 + x).toNat) m more) 4000 1 : Nat) : Int) more (more + 1) t pl wg) (M41 most found more t pl wg)))))))))))))) : MW l T yX3_bestMore cX3_bestMore 5 (some .int) ({ frames := 3, cells := 0, slots := 0, locals := 67 }) [.ref mo] [(mo, .inr (2, [.int (iN th), .ref am, .ref ae, .int (iN many), .ref ap, .ref ab, .ref aw, .int (iN coins), .ref ac, .ref an, .ref a0, .ref a1, .ref a2])), (am, .inl (T.2.1 0, 7, .inl (zA masses))), (ap, .inl (T.2.1 0, 7, .inl (zA placing))), (aw, .inl (T.2.1 3, 8001, .inl (zB weighed)))] (fun v_ wn_ => ∃ (r : Int), ∃ (th2 : Int), ∃ (placing2 : Nat → Int), ∃ (weighed2 : Nat → Bool), v_ = some (.int (iN r)) ∧ wn_ = [(mo, .inr (2, [.int (iN th2), .ref am, .ref ae, .int (iN many), .ref ap, .ref ab, .ref aw, .int (iN coins), .ref ac, .ref an, .ref a0, .ref a1, .ref a2])), (am, .inl (T.2.1 0, 7, .inl (zA masses))), (ap, .inl (T.2.1 0, 7, .inl (zA placing2))), (aw, .inl (T.2.1 3, 8001, .inl (zB weighed2)))] ∧ post r th2 placing2 weighed2) 0 0 := by
  refine MW.start hlt (by decide) (lv0 := [some (.ref mo), none, none, none, none]) rfl (Nat.le_of_ble_eq_true rfl) rfl ?_
  intro p e R s m args below meth c A cx hr hnm hST hrw
  have key : ∀ μ : g_mu, (∀ (most : Int) (found : Int) (more : Int) (t : Int) (pl : Nat → Int) (wg : Nat → Bool), I41 most found more t pl wg → M41 most found more t pl wg = μ → G p l e R s m args below meth c 5 T A A (MQ below (g_Q T (fun v_ wn_ => ∃ (r : Int), ∃ (th2 : Int), ∃ (placing2 : Nat → Int), ∃ (weighed2 : Nat → Bool), v_ = some (.int (iN r)) ∧ wn_ = [(mo, .inr (2, [.int (iN th2), .ref am, .ref ae, .int (iN many), .ref ap, .ref ab, .ref aw, .int (iN coins), .ref ac, .ref an, .ref a0, .ref a1, .ref a2])), (am, .inl (T.2.1 0, 7, .inl (zA masses))), (ap, .inl (T.2.1 0, 7, .inl (zA placing2))), (aw, .inl (T.2.1 3, 8001, .inl (zB weighed2)))] ∧ post r th2 placing2 weighed2) A) args s 0 0 A) 0 0 [(mo, .inr (2, [.int (iN t), .ref am, .ref ae, .int (iN many), .ref ap, .ref ab, .ref aw, .int (iN coins), .ref ac, .ref an, .ref a0, .ref a1, .ref a2])), (am, .inl (T.2.1 0, 7, .inl (zA masses))), (ap, .inl (T.2.1 0, 7, .inl (zA pl))), (aw, .inl (T.2.1 3, 8001, .inl (zB wg)))] [some (.ref mo), some (.int (iN most)), some (.int (iN found)), some (.int (iN more)), none] 41 []) := by
    refine g_ind (fun μ ih => ?_)
    · intro most found more t pl wg hI hM
      subst hM
      have vc := v41 most found more t pl wg hI
      refine g_iload_n (q := 42) cx dX3_bestMore_41 rfl rfl ?_
      refine g_sipush (q := 45) (v := iN 500) cx dX3_bestMore_42 (by decide) rfl ?_
      refine g_icmp_gtZ (q := 48) (tg := 86) cx vc.1 (by decide) dX3_bestMore_45 (by decide) rfl (fun h_1 => ?_) (fun h_1 => ?_)
      · have vc := vc.2.1 h_1
        refine g_iload_n (q := 87) cx dX3_bestMore_86 rfl rfl ?_
        exact g_iretW cx hr rfl ⟨found, t, pl, wg, rfl, rfl, vc⟩ (by first | exact Nat.le_of_ble_eq_true rfl | omega) (by first | exact Nat.le_of_ble_eq_true rfl | omega) dX3_bestMore_87
      · have vc := vc.2.2 h_1
        refine g_aload_n (q := 49) cx dX3_bestMore_48 rfl rfl ?_
        refine g_iload_n (q := 50) cx dX3_bestMore_49 rfl rfl ?_
        refine g_cVr (q := 53) (b := mo) (As := [.int (iN more)]) (wr := [(am, .inl (T.2.1 0, 7, .inl (zA masses))), (ap, .inl (T.2.1 0, 7, .inl (zA pl)))]) (st := []) cx hST (k_X3_gapWith l hlt T mo am ae ap ab aw ac an a0 a1 a2 t many coins wg more (vc.1)) q1212 s_X3_gapWith rfl 0 rfl rfl (g_perm [1, 2, 0, 3] rfl rfl) (g_rmB rfl) (Nat.le_of_ble_eq_true rfl) dX3_bestMore_50 rfl (fun v_ hv_ => ?_)
        have vc := vc.2
        obtain ⟨r_2, rfl, e_3⟩ := hv_
        subst e_3
        refine g_st (st2 := [.int (iN ((firstF (fun m => canW (fun x => wg (4000 + x).toNat) m more) 4000 1 : Nat) : Int))]) rfl ?_
        refine g_istore (q := 55) (lv2 := [some (.ref mo), some (.int (iN most)), some (.int (iN found)), some (.int (iN more)), some (.int (iN ((firstF (fun m => canW (fun x => wg (4000 + x).toNat) m more) 4000 1 : Nat) : Int)))]) cx dX3_bestMore_53 (by decide) rfl rfl ?_
        refine g_iload (q := 57) cx dX3_bestMore_55 rfl rfl ?_
        refine g_iload_n (q := 58) cx dX3_bestMore_57 rfl rfl ?_
        refine g_icmp_leZ (q := 61) (tg := 65) cx vc.1 vc.2.1 dX3_bestMore_58 (by decide) rfl (fun h_4 => ?_) (fun h_4 => ?_)
        · have vc := vc.2.2.1 h_4
          refine g_iload_n (q := 66) cx dX3_bestMore_65 rfl rfl ?_
          refine g_istore_n (q := 67) (lv2 := [some (.ref mo), some (.int (iN most)), some (.int (iN found)), some (.int (iN more)), some (.int (iN ((firstF (fun m => canW (fun x => wg (4000 + x).toNat) m more) 4000 1 : Nat) : Int)))]) cx dX3_bestMore_66 rfl (by decide) rfl rfl ?_
          refine g_iload (q := 69) cx dX3_bestMore_67 rfl rfl ?_
          refine g_iload_n (q := 70) cx dX3_bestMore_69 rfl rfl ?_
          refine g_icmp_leZ (q := 73) (tg := 78) cx vc.1 vc.2.1 dX3_bestMore_70 (by decide) rfl (fun h_5 => ?_) (fun h_5 => ?_)
          · have vc := vc.2.2.1 h_5
            refine g_iload_n (q := 79) cx dX3_bestMore_78 rfl rfl ?_
            refine g_istore_n (q := 80) (lv2 := [some (.ref mo), some (.int (iN most)), some (.int (iN found)), some (.int (iN more)), some (.int (iN ((firstF (fun m => canW (fun x => wg (4000 + x).toNat) m more) 4000 1 : Nat) : Int)))]) cx dX3_bestMore_79 rfl (by decide) rfl rfl ?_
            refine g_iinc (q := 83) (v := iN (more + 1)) (lv2 := [some (.ref mo), some (.int (iN most)), some (.int (iN found)), some (.int (iN (more + 1))), some (.int (iN ((firstF (fun m => canW (fun x => wg (4000 + x).toNat) m more) 4000 1 : Nat) : Int)))]) cx dX3_bestMore_80 rfl (iN_add _ _) (by decide) rfl rfl ?_
            refine g_goto (q := 41) cx dX3_bestMore_83 (by decide) ?_
            refine g_wk (lv2 := [some (.ref mo), some (.int (iN most)), some (.int (iN found)), some (.int (iN (more + 1))), none]) ⟨rfl, ⟨rfl, ⟨rfl, ⟨rfl, trivial⟩⟩⟩⟩ ?_
            exact (ih _ vc.2) most found (more + 1) t pl wg vc.1 rfl
          · have vc := vc.2.2.2 h_5
            refine g_iload (q := 75) cx dX3_bestMore_73 rfl rfl ?_
            refine g_goto (q := 79) cx dX3_bestMore_75 (by decide) ?_
            refine g_istore_n (q := 80) (lv2 := [some (.ref mo), some (.int (iN ((firstF (fun m => canW (fun x => wg (4000 + x).toNat) m more) 4000 1 : Nat) : Int))), some (.int (iN found)), some (.int (iN more)), some (.int (iN ((firstF (fun m => canW (fun x => wg (4000 + x).toNat) m more) 4000 1 : Nat) : Int)))]) cx dX3_bestMore_79 rfl (by decide) rfl rfl ?_
            refine g_iinc (q := 83) (v := iN (more + 1)) (lv2 := [some (.ref mo), some (.int (iN ((firstF (fun m => canW (fun x => wg (4000 + x).toNat) m more) 4000 1 : Nat) : Int))), some (.int (iN found)), some (.int (iN (more + 1))), some (.int (iN ((firstF (fun m => canW (fun x => wg (4000 + x).toNat) m more) 4000 1 : Nat) : Int)))]) cx dX3_bestMore_80 rfl (iN_add _ _) (by decide) rfl rfl ?_
            refine g_goto (q := 41) cx dX3_bestMore_83 (by decide) ?_
            refine g_wk (lv2 := [some (.ref mo), some (.int (iN ((firstF (fun m => canW (fun x => wg (4000 + x).toNat) m more) 4000 1 : Nat) : Int))), some (.int (iN found)), some (.int (iN (more + 1))), none]) ⟨rfl, ⟨rfl, ⟨rfl, ⟨rfl, trivial⟩⟩⟩⟩ ?_
            exact (ih _ vc.2) ((firstF (fun m => canW (fun x => wg (4000 + x).toNat) m more) 4000 1 : Nat) : Int) found (more + 1) t pl wg vc.1 rfl
        · have vc := vc.2.2.2 h_4
          refine g_iload_n (q := 62) cx dX3_bestMore_61 rfl rfl ?_
          refine g_goto (q := 66) cx dX3_bestMore_62 (by decide) ?_
          refine g_istore_n (q := 67) (lv2 := [some (.ref mo), some (.int (iN most)), some (.int (iN more)), some (.int (iN more)), some (.int (iN ((firstF (fun m => canW (fun x => wg (4000 + x).toNat) m more) 4000 1 : Nat) : Int)))]) cx dX3_bestMore_66 rfl (by decide) rfl rfl ?_
          refine g_iload (q := 69) cx dX3_bestMore_67 rfl rfl ?_
          refine g_iload_n (q := 70) cx dX3_bestMore_69 rfl rfl ?_
          refine g_icmp_leZ (q := 73) (tg := 78) cx vc.1 vc.2.1 dX3_bestMore_70 (by decide) rfl (fun h_6 => ?_) (fun h_6 => ?_)
          · have vc := vc.2.2.1 h_6
            refine g_iload_n (q := 79) cx dX3_bestMore_78 rfl rfl ?_
            refine g_istore_n (q := 80) (lv2 := [some (.ref mo), some (.int (iN most)), some (.int (iN more)), some (.int (iN more)), some (.int (iN ((firstF (fun m => canW (fun x => wg (4000 + x).toNat) m more) 4000 1 : Nat) : Int)))]) cx dX3_bestMore_79 rfl (by decide) rfl rfl ?_
            refine g_iinc (q := 83) (v := iN (more + 1)) (lv2 := [some (.ref mo), some (.int (iN most)), some (.int (iN more)), some (.int (iN (more + 1))), some (.int (iN ((firstF (fun m => canW (fun x => wg (4000 + x).toNat) m more) 4000 1 : Nat) : Int)))]) cx dX3_bestMore_80 rfl (iN_add _ _) (by decide) rfl rfl ?_
            refine g_goto (q := 41) cx dX3_bestMore_83 (by decide) ?_
            refine g_wk (lv2 := [some (.ref mo), some (.int (iN most)), some (.int (iN more)), some (.int (iN (more + 1))), none]) ⟨rfl, ⟨rfl, ⟨rfl, ⟨rfl, trivial⟩⟩⟩⟩ ?_
            exact (ih _ vc.2) most more (more + 1) t pl wg vc.1 rfl
          · have vc := vc.2.2.2 h_6
            refine g_iload (q := 75) cx dX3_bestMore_73 rfl rfl ?_
            refine g_goto (q := 79) cx dX3_bestMore_75 (by decide) ?_
            refine g_istore_n (q := 80) (lv2 := [some (.ref mo), some (.int (iN ((firstF (fun m => canW (fun x => wg (4000 + x).toNat) m more) 4000 1 : Nat) : Int))), some (.int (iN more)), some (.int (iN more)), some (.int (iN ((firstF (fun m => canW (fun x => wg (4000 + x).toNat) m more) 4000 1 : Nat) : Int)))]) cx dX3_bestMore_79 rfl (by decide) rfl rfl ?_
            refine g_iinc (q := 83) (v := iN (more + 1)) (lv2 := [some (.ref mo), some (.int (iN ((firstF (fun m => canW (fun x => wg (4000 + x).toNat) m more) 4000 1 : Nat) : Int))), some (.int (iN more)), some (.int (iN (more + 1))), some (.int (iN ((firstF (fun m => canW (fun x => wg (4000 + x).toNat) m more) 4000 1 : Nat) : Int)))]) cx dX3_bestMore_80 rfl (iN_add _ _) (by decide) rfl rfl ?_
            refine g_goto (q := 41) cx dX3_bestMore_83 (by decide) ?_
            refine g_wk (lv2 := [some (.ref mo), some (.int (iN ((firstF (fun m => canW (fun x => wg (4000 + x).toNat) m more) 4000 1 : Nat) : Int))), some (.int (iN more)), some (.int (iN (more + 1))), none]) ⟨rfl, ⟨rfl, ⟨rfl, ⟨rfl, trivial⟩⟩⟩⟩ ?_
            exact (ih _ vc.2) ((firstF (fun m => canW (fun x => wg (4000 + x).toNat) m more) 4000 1 : Nat) : Int) more (more + 1) t pl wg vc.1 rfl
  have vc := v0_
  refine g_aload_n (q := 1) cx dX3_bestMore_0 rfl rfl ?_
  refine g_aload_n (q := 2) cx dX3_bestMore_1 rfl rfl ?_
  refine g_get (q := 5) cx k_cX3 0 rfl 3 (by decide) q1073 (Or.inl rfl) rfl dX3_bestMore_2 rfl ?_
  refine g_bipush (q := 7) (v := iN 7) cx dX3_bestMore_5 (by decide) rfl ?_
  refine g_icmp_neZ (q := 10) (tg := 14) cx vc.1 (by decide) dX3_bestMore_7 (by decide) rfl (fun h_7 => ?_) (fun h_7 => ?_)
  · have vc := vc.2.1 h_7
    refine g_iconst (q := 15) (v := iN 0) cx dX3_bestMore_14 rfl rfl ?_
    refine g_cVw (q := 18) (b := mo) (As := [.int (iN 0)]) (wr := [(am, .inl (T.2.1 0, 7, .inl (zA masses))), (ap, .inl (T.2.1 0, 7, .inl (zA placing))), (aw, .inl (T.2.1 3, 8001, .inl (zB weighed)))]) (st := []) cx hST hrw (k_X3_goesWell l hlt T mo am ae ap ab aw ac an a0 a1 a2 th many coins 0 (by decide)) q1122 s_X3_goesWell rfl 0 rfl rfl (g_perm [1, 2, 3, 0] rfl rfl) (g_rmB rfl) (Nat.le_of_ble_eq_true rfl) dX3_bestMore_15 rfl (fun v_ wn_ hv_ => ?_)
    obtain ⟨b_8, th2_9, rfl, rfl, e_10⟩ := hv_
    obtain ⟨rfl, rfl⟩ := e_10
    refine g_wp (ws2 := [(mo, .inr (2, [.int (iN 0), .ref am, .ref ae, .int (iN many), .ref ap, .ref ab, .ref aw, .int (iN coins), .ref ac, .ref an, .ref a0, .ref a1, .ref a2])), (am, .inl (T.2.1 0, 7, .inl (zA masses))), (ap, .inl (T.2.1 0, 7, .inl (zA placing))), (aw, .inl (T.2.1 3, 8001, .inl (zB weighed)))]) (g_perm [3, 0, 1, 2] rfl rfl) ?_
    refine g_cs (cells2 := 0) (slots2 := 0) (ws2 := [(mo, .inr (2, [.int (iN 0), .ref am, .ref ae, .int (iN many), .ref ap, .ref ab, .ref aw, .int (iN coins), .ref ac, .ref an, .ref a0, .ref a1, .ref a2])), (am, .inl (T.2.1 0, 7, .inl (zA masses))), (ap, .inl (T.2.1 0, 7, .inl (zA placing))), (aw, .inl (T.2.1 3, 8001, .inl (zB weighed)))]) rfl rfl rfl ?_
    refine g_st (st2 := [.int (bI true)]) rfl ?_
    refine g_if_ne (q := 21) (tg := 23) cx dX3_bestMore_18 (by decide) rfl (fun _ => ?_) (fun h => absurd h (by decide))
    refine g_aload_n (q := 24) cx dX3_bestMore_23 rfl rfl ?_
    refine g_iconst (q := 25) (v := iN 1) cx dX3_bestMore_24 rfl rfl ?_
    refine g_aload_n (q := 26) cx dX3_bestMore_25 rfl rfl ?_
    refine g_get (q := 29) cx k_cX3 0 rfl 3 (by decide) q1073 (Or.inl rfl) rfl dX3_bestMore_26 rfl ?_
    refine g_ishlZ (q := 30) cx vc.1 vc.2.1 dX3_bestMore_29 rfl ?_
    have vc := vc.2
    have vc := vc.2
    refine g_iconst (q := 31) (v := iN 1) cx dX3_bestMore_30 rfl rfl ?_
    refine g_isubZ (q := 32) cx dX3_bestMore_31 rfl ?_
    refine g_cVw (q := 35) (b := mo) (As := [.int (iN (((1 : Int) * 2 ^ many.toNat) - 1))]) (wr := []) (st := []) cx hST hrw (k_X3_layWeighed l hlt T mo am ae ap ab aw ac an a0 a1 a2 0 many coins masses placing weighed (((1 : Int) * 2 ^ many.toNat) - 1) n (vc.1) (vc.2.1) (vc.2.2.1) (vc.2.2.2.1)) q1205 s_X3_layWeighed rfl 0 rfl rfl g_perm1 (g_rmB rfl) (Nat.le_of_ble_eq_true rfl) dX3_bestMore_32 rfl (fun v_ wn_ hv_ => ?_)
    have vc := vc.2
    have vc := vc.2
    have vc := vc.2
    have vc := vc.2
    obtain ⟨placing2_11, weighed2_12, rfl, rfl, e_13⟩ := hv_
    have e_13 := e_13
    refine g_cs (cells2 := 0) (slots2 := 0) (ws2 := [(mo, .inr (2, [.int (iN 0), .ref am, .ref ae, .int (iN many), .ref ap, .ref ab, .ref aw, .int (iN coins), .ref ac, .ref an, .ref a0, .ref a1, .ref a2])), (am, .inl (T.2.1 0, 7, .inl (zA masses))), (ap, .inl (T.2.1 0, 7, .inl (zA placing2_11))), (aw, .inl (T.2.1 3, 8001, .inl (zB weighed2_12)))]) rfl rfl rfl ?_
    refine g_st (st2 := []) rfl ?_
    have vc := vc placing2_11 weighed2_12 e_13
    refine g_iconst (q := 36) (v := iN 0) cx dX3_bestMore_35 rfl rfl ?_
    refine g_istore_n (q := 37) (lv2 := [some (.ref mo), some (.int (iN 0)), none, none, none]) cx dX3_bestMore_36 rfl (by decide) rfl rfl ?_
    refine g_iconst (q := 38) (v := iN 0) cx dX3_bestMore_37 rfl rfl ?_
    refine g_istore_n (q := 39) (lv2 := [some (.ref mo), some (.int (iN 0)), some (.int (iN 0)), none, none]) cx dX3_bestMore_38 rfl (by decide) rfl rfl ?_
    refine g_iconst (q := 40) (v := iN 1) cx dX3_bestMore_39 rfl rfl ?_
    refine g_istore_n (q := 41) (lv2 := [some (.ref mo), some (.int (iN 0)), some (.int (iN 0)), some (.int (iN 1)), none]) cx dX3_bestMore_40 rfl (by decide) rfl rfl ?_
    exact (key _) 0 0 1 0 placing2_11 weighed2_12 vc rfl
  · have vc := vc.2.2 h_7
    refine g_iconst (q := 11) (v := iN 1) cx dX3_bestMore_10 rfl rfl ?_
    refine g_goto (q := 15) cx dX3_bestMore_11 (by decide) ?_
    refine g_cVw (q := 18) (b := mo) (As := [.int (iN 1)]) (wr := [(am, .inl (T.2.1 0, 7, .inl (zA masses))), (ap, .inl (T.2.1 0, 7, .inl (zA placing))), (aw, .inl (T.2.1 3, 8001, .inl (zB weighed)))]) (st := []) cx hST hrw (k_X3_goesWell l hlt T mo am ae ap ab aw ac an a0 a1 a2 th many coins 1 (by decide)) q1122 s_X3_goesWell rfl 0 rfl rfl (g_perm [1, 2, 3, 0] rfl rfl) (g_rmB rfl) (Nat.le_of_ble_eq_true rfl) dX3_bestMore_15 rfl (fun v_ wn_ hv_ => ?_)
    obtain ⟨b_14, th2_15, rfl, rfl, e_16⟩ := hv_
    obtain ⟨rfl, rfl⟩ := e_16
    refine g_wp (ws2 := [(mo, .inr (2, [.int (iN 1), .ref am, .ref ae, .int (iN many), .ref ap, .ref ab, .ref aw, .int (iN coins), .ref ac, .ref an, .ref a0, .ref a1, .ref a2])), (am, .inl (T.2.1 0, 7, .inl (zA masses))), (ap, .inl (T.2.1 0, 7, .inl (zA placing))), (aw, .inl (T.2.1 3, 8001, .inl (zB weighed)))]) (g_perm [3, 0, 1, 2] rfl rfl) ?_
    refine g_cs (cells2 := 0) (slots2 := 0) (ws2 := [(mo, .inr (2, [.int (iN 1), .ref am, .ref ae, .int (iN many), .ref ap, .ref ab, .ref aw, .int (iN coins), .ref ac, .ref an, .ref a0, .ref a1, .ref a2])), (am, .inl (T.2.1 0, 7, .inl (zA masses))), (ap, .inl (T.2.1 0, 7, .inl (zA placing))), (aw, .inl (T.2.1 3, 8001, .inl (zB weighed)))]) rfl rfl rfl ?_
    refine g_st (st2 := [.int (bI false)]) rfl ?_
    refine g_if_ne (q := 21) (tg := 23) cx dX3_bestMore_18 (by decide) rfl (fun h => absurd h (by decide)) (fun _ => ?_)
    refine g_iconst (q := 22) (v := iN 0) cx dX3_bestMore_21 rfl rfl ?_
    exact g_iretW cx hr rfl ⟨0, 1, placing, weighed, rfl, rfl, vc⟩ (by first | exact Nat.le_of_ble_eq_true rfl | omega) (by first | exact Nat.le_of_ble_eq_true rfl | omega) dX3_bestMore_22

theorem k_X3_bestMore (l : Launch) (hlt : l.stackTraces = false) (T : GT) (mo : Nat) (am : Nat) (ae : Nat) (ap : Nat) (ab : Nat) (aw : Nat) (ac : Nat) (an : Nat) (a0 : Nat) (a1 : Nat) (a2 : Nat) (th : Int) (many : Int) (coins : Int) (masses : Nat → Int) (placing : Nat → Int) (weighed : Nat → Bool) (n : Nat) (hp0 : many = n) (hp1 : n ≤ 7) (hp2 : msOK n masses) : MW l T yX3_bestMore cX3_bestMore 5 (some .int) ({ frames := 3, cells := 0, slots := 0, locals := 67 }) [.ref mo] [(mo, .inr (2, [.int (iN th), .ref am, .ref ae, .int (iN many), .ref ap, .ref ab, .ref aw, .int (iN coins), .ref ac, .ref an, .ref a0, .ref a1, .ref a2])), (am, .inl (T.2.1 0, 7, .inl (zA masses))), (ap, .inl (T.2.1 0, 7, .inl (zA placing))), (aw, .inl (T.2.1 3, 8001, .inl (zB weighed)))] (fun v_ wn_ => ∃ (r : Int), ∃ (th2 : Int), ∃ (placing2 : Nat → Int), ∃ (weighed2 : Nat → Bool), v_ = some (.int (iN r)) ∧ wn_ = [(mo, .inr (2, [.int (iN th2), .ref am, .ref ae, .int (iN many), .ref ap, .ref ab, .ref aw, .int (iN coins), .ref ac, .ref an, .ref a0, .ref a1, .ref a2])), (am, .inl (T.2.1 0, 7, .inl (zA masses))), (ap, .inl (T.2.1 0, 7, .inl (zA placing2))), (aw, .inl (T.2.1 3, 8001, .inl (zB weighed2)))] ∧ r = (if n = 7 then 0 else (pmore masses n 500).2) ∧ th2 = (if n = 7 then 1 else 0)) 0 0 := by
  refine w_X3_bestMore l hlt T mo am ae ap ab aw ac an a0 a1 a2 th many coins masses placing weighed n (I41 := fun most found more t pl wg => ∃ j : Nat, j ≤ 500 ∧ more = (j : Int) + 1 ∧ t = 0 ∧ n ≠ 7 ∧ wOK masses n (2 ^ n - 1) (3 ^ n) wg ∧ most = (pmore masses n j).1 ∧ found = (pmore masses n j).2) (M41 := fun _ _ more _ _ _ => (0, 0, 0, (501 - more).toNat)) _ ?_ ?_
  · subst hp0
    have h2 := pow2_7 hp1
    have e : ((1 : Int) * 2 ^ ((n : Nat) : Int).toNat - 1) = ((2 ^ n - 1 : Nat) : Int) := by
      rw [Int.toNat_natCast, Int.one_mul]
      have : ((2 ^ n : Nat) : Int) = (2 : Int) ^ n := Int.natCast_pow 2 n
      omega
    have e2 : ((1 : Int) * 2 ^ ((n : Nat) : Int).toNat) = ((2 ^ n : Nat) : Int) := by
      rw [Int.toNat_natCast, Int.one_mul]
      exact (Int.natCast_pow 2 n).symm
    rw [e, e2]
    refine ⟨by omega, fun h => ⟨by omega, by omega, rfl, hp1, hp2, by omega, fun pl wg hw => ?_⟩, fun h => ?_⟩
    · rw [Int.toNat_natCast] at hw
      exact ⟨0, by omega, rfl, rfl, by omega, hw, rfl, rfl⟩
    · rw [if_pos (by omega), if_pos (by omega)]
      exact ⟨rfl, rfl⟩
  · rintro most found more t pl wg ⟨j, hj, rfl, rfl, hn, hw, rfl, rfl⟩
    have hb := pmore_in (ms := masses) (n := n) j
    have hg := firstF_in (P := fun m => canW (wsum masses n (2 ^ n - 1) (3 ^ n)) m ((j : Int) + 1)) 4000 1
    have hgp : 1 ≤ pgap masses n (2 ^ n - 1) ((j : Int) + 1) ∧ pgap masses n (2 ^ n - 1) ((j : Int) + 1) ≤ 4001 := hg
    have stp : pmore masses n (j + 1) = if (pmore masses n j).1 < (pgap masses n (2 ^ n - 1) ((j : Int) + 1) : Nat) then (((pgap masses n (2 ^ n - 1) ((j : Int) + 1) : Nat) : Int), (j : Int) + 1) else pmore masses n j := rfl
    refine ⟨by omega, fun h => ?_, fun h => ⟨by omega, ?_⟩⟩
    · rw [show j = 500 by omega, if_neg hn, if_neg hn]
      exact ⟨rfl, rfl⟩
    · rw [gapW hw (by omega)]
      refine ⟨by omega, by omega, fun h1 => ⟨by omega, by omega, fun h2 => ?_, fun h2 => ?_⟩, fun h1 => ⟨by omega, by omega, fun h2 => ?_, fun h2 => ?_⟩⟩
      · exact ⟨⟨j + 1, by omega, rfl, rfl, hn, hw, by rw [stp, if_neg (by omega)], by rw [stp, if_neg (by omega)]⟩, g_ltI (by omega)⟩
      · omega
      · omega
      · exact ⟨⟨j + 1, by omega, rfl, rfl, hn, hw, by rw [stp, if_pos h1], by rw [stp, if_pos h1]⟩, g_ltI (by omega)⟩

set_option maxRecDepth 100000 in
set_option maxHeartbeats 4000000 in
theorem w_X3_placed (l : Launch) (hlt : l.stackTraces = false) (T : GT) (mo : Nat) (am : Nat) (ae : Nat) (ap : Nat) (ab : Nat) (aw : Nat) (ac : Nat) (an : Nat) (a0 : Nat) (a1 : Nat) (a2 : Nat) (th : Int) (many : Int) (coins : Int) (masses : Nat → Int) (placing : Nat → Int) (best : Nat → Int) (mass : Int) (weight : Int) (n : Nat) (I24 : Int → (Nat → Int) → (Nat → Int) → Prop) (M24 : Int → (Nat → Int) → (Nat → Int) → g_mu) (post : Int → Int → (Nat → Int) → (Nat → Int) → Prop) (v0_ : (-2147483648 ≤ mass ∧ mass < 2147483648) ∧ (((decide (1 ≤ mass) && decide (mass ≤ 4000)) = false → (I24 (-1) placing best)) ∧ ((decide (1 ≤ mass) && decide (mass ≤ 4000)) = true → ((-2147483648 ≤ weight ∧ weight < 2147483648) ∧ ((0 ≤ many ∧ many ≤ 7) ∧ (((decide (0 ≤ weight) && decide (weight ≤ many - 1)) = false → (I24 (-1) placing best)) ∧ ((decide (0 ≤ weight) && decide (weight ≤ many - 1)) = true → ((many = n) ∧ ((n ≤ 7) ∧ ((msOK n masses) ∧ ((-2147483648 ≤ mass ∧ mass < 2147483648) ∧ (∀ (placing2_27 : Nat → Int), I24 (pbsize n (pbest masses n mass (3 ^ n))) placing2_27 (pbplac n best (pbest masses n mass (3 ^ n))))))))))))))) (v24 : ∀ (size : Int) (pl : Nat → Int) (bst : Nat → Int), I24 size pl bst → (-2147483648 ≤ mass ∧ mass < 2147483648) ∧ (((decide (1 ≤ mass) && decide (mass ≤ 4000)) = true → ((-2147483648 ≤ weight ∧ weight < 2147483648) ∧ ((0 ≤ many ∧ many ≤ 7) ∧ (((decide (0 ≤ weight) && decide (weight ≤ many - 1)) = true → ((-2147483648 ≤ size ∧ size < 2147483648) ∧ ((¬ size = (-1) → ((0 ≤ weight ∧ weight < 7) ∧ (post (bst weight.toNat) 0 pl bst))) ∧ (size = (-1) → (post 0 3 pl bst))))) ∧ ((decide (0 ≤ weight) && decide (weight ≤ many - 1)) = false → (post 0 2 pl bst)))))) ∧ ((decide (1 ≤ mass) && decide (mass ≤ 4000)) = false → (post 0 1 pl bst)))) : MW l T yX3_placed cX3_placed 4 (some .int) ({ frames := 2, cells := 0, slots := 0, locals := 49 }) [.ref mo, .int (iN mass), .int (iN weight)] [(mo, .inr (2, [.int (iN th), .ref am, .ref ae, .int (iN many), .ref ap, .ref ab, .ref aw, .int (iN coins), .ref ac, .ref an, .ref a0, .ref a1, .ref a2])), (am, .inl (T.2.1 0, 7, .inl (zA masses))), (ap, .inl (T.2.1 0, 7, .inl (zA placing))), (ab, .inl (T.2.1 0, 7, .inl (zA best)))] (fun v_ wn_ => ∃ (r : Int), ∃ (th2 : Int), ∃ (placing2 : Nat → Int), ∃ (best2 : Nat → Int), v_ = some (.int (iN r)) ∧ wn_ = [(mo, .inr (2, [.int (iN th2), .ref am, .ref ae, .int (iN many), .ref ap, .ref ab, .ref aw, .int (iN coins), .ref ac, .ref an, .ref a0, .ref a1, .ref a2])), (am, .inl (T.2.1 0, 7, .inl (zA masses))), (ap, .inl (T.2.1 0, 7, .inl (zA placing2))), (ab, .inl (T.2.1 0, 7, .inl (zA best2)))] ∧ post r th2 placing2 best2) 0 0 := by
  refine MW.start hlt (by decide) (lv0 := [some (.ref mo), some (.int (iN mass)), some (.int (iN weight)), none]) rfl (Nat.le_of_ble_eq_true rfl) rfl ?_
  intro p e R s m args below meth c A cx hr hnm hST hrw
  have key : ∀ μ : g_mu, (∀ (size : Int) (pl : Nat → Int) (bst : Nat → Int), I24 size pl bst → M24 size pl bst = μ → G p l e R s m args below meth c 4 T A A (MQ below (g_Q T (fun v_ wn_ => ∃ (r : Int), ∃ (th2 : Int), ∃ (placing2 : Nat → Int), ∃ (best2 : Nat → Int), v_ = some (.int (iN r)) ∧ wn_ = [(mo, .inr (2, [.int (iN th2), .ref am, .ref ae, .int (iN many), .ref ap, .ref ab, .ref aw, .int (iN coins), .ref ac, .ref an, .ref a0, .ref a1, .ref a2])), (am, .inl (T.2.1 0, 7, .inl (zA masses))), (ap, .inl (T.2.1 0, 7, .inl (zA placing2))), (ab, .inl (T.2.1 0, 7, .inl (zA best2)))] ∧ post r th2 placing2 best2) A) args s 0 0 A) 0 0 [(mo, .inr (2, [.int (iN th), .ref am, .ref ae, .int (iN many), .ref ap, .ref ab, .ref aw, .int (iN coins), .ref ac, .ref an, .ref a0, .ref a1, .ref a2])), (am, .inl (T.2.1 0, 7, .inl (zA masses))), (ap, .inl (T.2.1 0, 7, .inl (zA pl))), (ab, .inl (T.2.1 0, 7, .inl (zA bst)))] [some (.ref mo), some (.int (iN mass)), some (.int (iN weight)), none] 24 [.int (iN size)]) := by
    refine g_ind (fun μ ih => ?_)
    · intro size pl bst hI hM
      subst hM
      have vc := v24 size pl bst hI
      refine g_istore_n (q := 25) (lv2 := [some (.ref mo), some (.int (iN mass)), some (.int (iN weight)), some (.int (iN size))]) cx dX3_placed_24 rfl (by decide) rfl rfl ?_
      refine g_aload_n (q := 26) cx dX3_placed_25 rfl rfl ?_
      refine g_iload_n (q := 27) cx dX3_placed_26 rfl rfl ?_
      refine g_cSr (q := 30) (As := [.int (iN mass)]) (wr := [(mo, .inr (2, [.int (iN th), .ref am, .ref ae, .int (iN many), .ref ap, .ref ab, .ref aw, .int (iN coins), .ref ac, .ref an, .ref a0, .ref a1, .ref a2])), (am, .inl (T.2.1 0, 7, .inl (zA masses))), (ap, .inl (T.2.1 0, 7, .inl (zA pl))), (ab, .inl (T.2.1 0, 7, .inl (zA bst)))]) (st := [.ref mo]) cx hST (k_X3_isMass l hlt T mass (vc.1)) q1146 s_X3_isMass rfl g_perm0 (g_rmB rfl) (Nat.le_of_ble_eq_true rfl) dX3_placed_27 rfl (fun v_ hv_ => ?_)
      have vc := vc.2
      obtain ⟨b_1, rfl, e_2⟩ := hv_
      subst e_2
      refine g_st (st2 := [.int (bI (decide (1 ≤ mass) && decide (mass ≤ 4000))), .ref mo]) rfl ?_
      refine g_if_ne (q := 33) (tg := 37) cx dX3_placed_30 (by decide) rfl (fun h_3 => ?_) (fun h_3 => ?_)
      · have vc := vc.1 (bI_n0.mp h_3)
        refine g_aload_n (q := 38) cx dX3_placed_37 rfl rfl ?_
        refine g_iload_n (q := 39) cx dX3_placed_38 rfl rfl ?_
        refine g_cVr (q := 42) (b := mo) (As := [.int (iN weight)]) (wr := [(am, .inl (T.2.1 0, 7, .inl (zA masses))), (ap, .inl (T.2.1 0, 7, .inl (zA pl))), (ab, .inl (T.2.1 0, 7, .inl (zA bst)))]) (st := [.ref mo]) cx hST (k_X3_isWeight l hlt T mo am ae ap ab aw ac an a0 a1 a2 th many coins weight (vc.1) (vc.2.1)) q1130 s_X3_isWeight rfl 0 rfl rfl (g_perm [1, 2, 3, 0] rfl rfl) (g_rmB rfl) (Nat.le_of_ble_eq_true rfl) dX3_placed_39 rfl (fun v_ hv_ => ?_)
        have vc := vc.2
        have vc := vc.2
        obtain ⟨b_4, rfl, e_5⟩ := hv_
        subst e_5
        refine g_st (st2 := [.int (bI (decide (0 ≤ weight) && decide (weight ≤ many - 1))), .ref mo]) rfl ?_
        refine g_if_ne (q := 45) (tg := 49) cx dX3_placed_42 (by decide) rfl (fun h_6 => ?_) (fun h_6 => ?_)
        · have vc := vc.1 (bI_n0.mp h_6)
          refine g_iload_n (q := 50) cx dX3_placed_49 rfl rfl ?_
          refine g_iconst (q := 51) (v := iN (-1)) cx dX3_placed_50 rfl rfl ?_
          refine g_icmp_neZ (q := 54) (tg := 58) cx vc.1 (by decide) dX3_placed_51 (by decide) rfl (fun h_7 => ?_) (fun h_7 => ?_)
          · have vc := vc.2.1 h_7
            refine g_iconst (q := 59) (v := iN 0) cx dX3_placed_58 rfl rfl ?_
            refine g_cVw (q := 62) (b := mo) (As := [.int (iN 0)]) (wr := [(am, .inl (T.2.1 0, 7, .inl (zA masses))), (ap, .inl (T.2.1 0, 7, .inl (zA pl))), (ab, .inl (T.2.1 0, 7, .inl (zA bst)))]) (st := []) cx hST hrw (k_X3_goesWell l hlt T mo am ae ap ab aw ac an a0 a1 a2 th many coins 0 (by decide)) q1122 s_X3_goesWell rfl 0 rfl rfl (g_perm [1, 2, 3, 0] rfl rfl) (g_rmB rfl) (Nat.le_of_ble_eq_true rfl) dX3_placed_59 rfl (fun v_ wn_ hv_ => ?_)
            obtain ⟨b_8, th2_9, rfl, rfl, e_10⟩ := hv_
            obtain ⟨rfl, rfl⟩ := e_10
            refine g_wp (ws2 := [(mo, .inr (2, [.int (iN 0), .ref am, .ref ae, .int (iN many), .ref ap, .ref ab, .ref aw, .int (iN coins), .ref ac, .ref an, .ref a0, .ref a1, .ref a2])), (am, .inl (T.2.1 0, 7, .inl (zA masses))), (ap, .inl (T.2.1 0, 7, .inl (zA pl))), (ab, .inl (T.2.1 0, 7, .inl (zA bst)))]) (g_perm [3, 0, 1, 2] rfl rfl) ?_
            refine g_cs (cells2 := 0) (slots2 := 0) (ws2 := [(mo, .inr (2, [.int (iN 0), .ref am, .ref ae, .int (iN many), .ref ap, .ref ab, .ref aw, .int (iN coins), .ref ac, .ref an, .ref a0, .ref a1, .ref a2])), (am, .inl (T.2.1 0, 7, .inl (zA masses))), (ap, .inl (T.2.1 0, 7, .inl (zA pl))), (ab, .inl (T.2.1 0, 7, .inl (zA bst)))]) rfl rfl rfl ?_
            refine g_st (st2 := [.int (bI true)]) rfl ?_
            refine g_if_eq (q := 65) (tg := 74) cx dX3_placed_62 (by decide) rfl (fun h => absurd h (by decide)) (fun _ => ?_)
            refine g_aload_n (q := 66) cx dX3_placed_65 rfl rfl ?_
            refine g_get (q := 69) cx k_cX3 0 rfl 5 (by decide) q1075 (Or.inl rfl) rfl dX3_placed_66 rfl ?_
            refine g_iload_n (q := 70) cx dX3_placed_69 rfl rfl ?_
            refine g_ialdZ (q := 71) cx 3 (by decide) rfl vc.1 dX3_placed_70 rfl ?_
            have vc := vc.2
            refine g_goto (q := 75) cx dX3_placed_71 (by decide) ?_
            exact g_iretW cx hr rfl ⟨(bst weight.toNat), 0, pl, bst, rfl, rfl, vc⟩ (by first | exact Nat.le_of_ble_eq_true rfl | omega) (by first | exact Nat.le_of_ble_eq_true rfl | omega) dX3_placed_75
          · have vc := vc.2.2 h_7
            refine g_iconst (q := 55) (v := iN 3) cx dX3_placed_54 rfl rfl ?_
            refine g_goto (q := 59) cx dX3_placed_55 (by decide) ?_
            refine g_cVw (q := 62) (b := mo) (As := [.int (iN 3)]) (wr := [(am, .inl (T.2.1 0, 7, .inl (zA masses))), (ap, .inl (T.2.1 0, 7, .inl (zA pl))), (ab, .inl (T.2.1 0, 7, .inl (zA bst)))]) (st := []) cx hST hrw (k_X3_goesWell l hlt T mo am ae ap ab aw ac an a0 a1 a2 th many coins 3 (by decide)) q1122 s_X3_goesWell rfl 0 rfl rfl (g_perm [1, 2, 3, 0] rfl rfl) (g_rmB rfl) (Nat.le_of_ble_eq_true rfl) dX3_placed_59 rfl (fun v_ wn_ hv_ => ?_)
            obtain ⟨b_11, th2_12, rfl, rfl, e_13⟩ := hv_
            obtain ⟨rfl, rfl⟩ := e_13
            refine g_wp (ws2 := [(mo, .inr (2, [.int (iN 3), .ref am, .ref ae, .int (iN many), .ref ap, .ref ab, .ref aw, .int (iN coins), .ref ac, .ref an, .ref a0, .ref a1, .ref a2])), (am, .inl (T.2.1 0, 7, .inl (zA masses))), (ap, .inl (T.2.1 0, 7, .inl (zA pl))), (ab, .inl (T.2.1 0, 7, .inl (zA bst)))]) (g_perm [3, 0, 1, 2] rfl rfl) ?_
            refine g_cs (cells2 := 0) (slots2 := 0) (ws2 := [(mo, .inr (2, [.int (iN 3), .ref am, .ref ae, .int (iN many), .ref ap, .ref ab, .ref aw, .int (iN coins), .ref ac, .ref an, .ref a0, .ref a1, .ref a2])), (am, .inl (T.2.1 0, 7, .inl (zA masses))), (ap, .inl (T.2.1 0, 7, .inl (zA pl))), (ab, .inl (T.2.1 0, 7, .inl (zA bst)))]) rfl rfl rfl ?_
            refine g_st (st2 := [.int (bI false)]) rfl ?_
            refine g_if_eq (q := 65) (tg := 74) cx dX3_placed_62 (by decide) rfl (fun _ => ?_) (fun h => absurd h (by decide))
            refine g_iconst (q := 75) (v := iN 0) cx dX3_placed_74 rfl rfl ?_
            exact g_iretW cx hr rfl ⟨0, 3, pl, bst, rfl, rfl, vc⟩ (by first | exact Nat.le_of_ble_eq_true rfl | omega) (by first | exact Nat.le_of_ble_eq_true rfl | omega) dX3_placed_75
        · have vc := vc.2 (bI_0.mp h_6)
          refine g_iconst (q := 46) (v := iN 2) cx dX3_placed_45 rfl rfl ?_
          refine g_goto (q := 59) cx dX3_placed_46 (by decide) ?_
          refine g_cVw (q := 62) (b := mo) (As := [.int (iN 2)]) (wr := [(am, .inl (T.2.1 0, 7, .inl (zA masses))), (ap, .inl (T.2.1 0, 7, .inl (zA pl))), (ab, .inl (T.2.1 0, 7, .inl (zA bst)))]) (st := []) cx hST hrw (k_X3_goesWell l hlt T mo am ae ap ab aw ac an a0 a1 a2 th many coins 2 (by decide)) q1122 s_X3_goesWell rfl 0 rfl rfl (g_perm [1, 2, 3, 0] rfl rfl) (g_rmB rfl) (Nat.le_of_ble_eq_true rfl) dX3_placed_59 rfl (fun v_ wn_ hv_ => ?_)
          obtain ⟨b_14, th2_15, rfl, rfl, e_16⟩ := hv_
          obtain ⟨rfl, rfl⟩ := e_16
          refine g_wp (ws2 := [(mo, .inr (2, [.int (iN 2), .ref am, .ref ae, .int (iN many), .ref ap, .ref ab, .ref aw, .int (iN coins), .ref ac, .ref an, .ref a0, .ref a1, .ref a2])), (am, .inl (T.2.1 0, 7, .inl (zA masses))), (ap, .inl (T.2.1 0, 7, .inl (zA pl))), (ab, .inl (T.2.1 0, 7, .inl (zA bst)))]) (g_perm [3, 0, 1, 2] rfl rfl) ?_
          refine g_cs (cells2 := 0) (slots2 := 0) (ws2 := [(mo, .inr (2, [.int (iN 2), .ref am, .ref ae, .int (iN many), .ref ap, .ref ab, .ref aw, .int (iN coins), .ref ac, .ref an, .ref a0, .ref a1, .ref a2])), (am, .inl (T.2.1 0, 7, .inl (zA masses))), (ap, .inl (T.2.1 0, 7, .inl (zA pl))), (ab, .inl (T.2.1 0, 7, .inl (zA bst)))]) rfl rfl rfl ?_
          refine g_st (st2 := [.int (bI false)]) rfl ?_
          refine g_if_eq (q := 65) (tg := 74) cx dX3_placed_62 (by decide) rfl (fun _ => ?_) (fun h => absurd h (by decide))
          refine g_iconst (q := 75) (v := iN 0) cx dX3_placed_74 rfl rfl ?_
          exact g_iretW cx hr rfl ⟨0, 2, pl, bst, rfl, rfl, vc⟩ (by first | exact Nat.le_of_ble_eq_true rfl | omega) (by first | exact Nat.le_of_ble_eq_true rfl | omega) dX3_placed_75
      · have vc := vc.2 (bI_0.mp h_3)
        refine g_iconst (q := 34) (v := iN 1) cx dX3_placed_33 rfl rfl ?_
        refine g_goto (q := 59) cx dX3_placed_34 (by decide) ?_
        refine g_cVw (q := 62) (b := mo) (As := [.int (iN 1)]) (wr := [(am, .inl (T.2.1 0, 7, .inl (zA masses))), (ap, .inl (T.2.1 0, 7, .inl (zA pl))), (ab, .inl (T.2.1 0, 7, .inl (zA bst)))]) (st := []) cx hST hrw (k_X3_goesWell l hlt T mo am ae ap ab aw ac an a0 a1 a2 th many coins 1 (by decide)) q1122 s_X3_goesWell rfl 0 rfl rfl (g_perm [1, 2, 3, 0] rfl rfl) (g_rmB rfl) (Nat.le_of_ble_eq_true rfl) dX3_placed_59 rfl (fun v_ wn_ hv_ => ?_)
        obtain ⟨b_17, th2_18, rfl, rfl, e_19⟩ := hv_
        obtain ⟨rfl, rfl⟩ := e_19
        refine g_wp (ws2 := [(mo, .inr (2, [.int (iN 1), .ref am, .ref ae, .int (iN many), .ref ap, .ref ab, .ref aw, .int (iN coins), .ref ac, .ref an, .ref a0, .ref a1, .ref a2])), (am, .inl (T.2.1 0, 7, .inl (zA masses))), (ap, .inl (T.2.1 0, 7, .inl (zA pl))), (ab, .inl (T.2.1 0, 7, .inl (zA bst)))]) (g_perm [3, 0, 1, 2] rfl rfl) ?_
        refine g_cs (cells2 := 0) (slots2 := 0) (ws2 := [(mo, .inr (2, [.int (iN 1), .ref am, .ref ae, .int (iN many), .ref ap, .ref ab, .ref aw, .int (iN coins), .ref ac, .ref an, .ref a0, .ref a1, .ref a2])), (am, .inl (T.2.1 0, 7, .inl (zA masses))), (ap, .inl (T.2.1 0, 7, .inl (zA pl))), (ab, .inl (T.2.1 0, 7, .inl (zA bst)))]) rfl rfl rfl ?_
        refine g_st (st2 := [.int (bI false)]) rfl ?_
        refine g_if_eq (q := 65) (tg := 74) cx dX3_placed_62 (by decide) rfl (fun _ => ?_) (fun h => absurd h (by decide))
        refine g_iconst (q := 75) (v := iN 0) cx dX3_placed_74 rfl rfl ?_
        exact g_iretW cx hr rfl ⟨0, 1, pl, bst, rfl, rfl, vc⟩ (by first | exact Nat.le_of_ble_eq_true rfl | omega) (by first | exact Nat.le_of_ble_eq_true rfl | omega) dX3_placed_75
  have vc := v0_
  refine g_iload_n (q := 1) cx dX3_placed_0 rfl rfl ?_
  refine g_cSr (q := 4) (As := [.int (iN mass)]) (wr := [(mo, .inr (2, [.int (iN th), .ref am, .ref ae, .int (iN many), .ref ap, .ref ab, .ref aw, .int (iN coins), .ref ac, .ref an, .ref a0, .ref a1, .ref a2])), (am, .inl (T.2.1 0, 7, .inl (zA masses))), (ap, .inl (T.2.1 0, 7, .inl (zA placing))), (ab, .inl (T.2.1 0, 7, .inl (zA best)))]) (st := []) cx hST (k_X3_isMass l hlt T mass (vc.1)) q1146 s_X3_isMass rfl g_perm0 (g_rmB rfl) (Nat.le_of_ble_eq_true rfl) dX3_placed_1 rfl (fun v_ hv_ => ?_)
  have vc := vc.2
  obtain ⟨b_20, rfl, e_21⟩ := hv_
  subst e_21
  refine g_st (st2 := [.int (bI (decide (1 ≤ mass) && decide (mass ≤ 4000)))]) rfl ?_
  refine g_if_eq (q := 7) (tg := 23) cx dX3_placed_4 (by decide) rfl (fun h_22 => ?_) (fun h_22 => ?_)
  · have vc := vc.1 (bI_0.mp h_22)
    refine g_iconst (q := 24) (v := iN (-1)) cx dX3_placed_23 rfl rfl ?_
    exact (key _) (-1) placing best vc rfl
  · have vc := vc.2 (bI_n0.mp h_22)
    refine g_aload_n (q := 8) cx dX3_placed_7 rfl rfl ?_
    refine g_iload_n (q := 9) cx dX3_placed_8 rfl rfl ?_
    refine g_cVr (q := 12) (b := mo) (As := [.int (iN weight)]) (wr := [(am, .inl (T.2.1 0, 7, .inl (zA masses))), (ap, .inl (T.2.1 0, 7, .inl (zA placing))), (ab, .inl (T.2.1 0, 7, .inl (zA best)))]) (st := []) cx hST (k_X3_isWeight l hlt T mo am ae ap ab aw ac an a0 a1 a2 th many coins weight (vc.1) (vc.2.1)) q1130 s_X3_isWeight rfl 0 rfl rfl (g_perm [1, 2, 3, 0] rfl rfl) (g_rmB rfl) (Nat.le_of_ble_eq_true rfl) dX3_placed_9 rfl (fun v_ hv_ => ?_)
    have vc := vc.2
    have vc := vc.2
    obtain ⟨b_23, rfl, e_24⟩ := hv_
    subst e_24
    refine g_st (st2 := [.int (bI (decide (0 ≤ weight) && decide (weight ≤ many - 1)))]) rfl ?_
    refine g_if_eq (q := 15) (tg := 23) cx dX3_placed_12 (by decide) rfl (fun h_25 => ?_) (fun h_25 => ?_)
    · have vc := vc.1 (bI_0.mp h_25)
      refine g_iconst (q := 24) (v := iN (-1)) cx dX3_placed_23 rfl rfl ?_
      exact (key _) (-1) placing best vc rfl
    · have vc := vc.2 (bI_n0.mp h_25)
      refine g_aload_n (q := 16) cx dX3_placed_15 rfl rfl ?_
      refine g_iload_n (q := 17) cx dX3_placed_16 rfl rfl ?_
      refine g_cVw (q := 20) (b := mo) (As := [.int (iN mass)]) (wr := []) (st := []) cx hST hrw (k_X3_findBest l hlt T mo am ae ap ab aw ac an a0 a1 a2 th many coins masses placing best mass n (vc.1) (vc.2.1) (vc.2.2.1) (vc.2.2.2.1)) q1181 s_X3_findBest rfl 0 rfl rfl g_perm1 (g_rmB rfl) (Nat.le_of_ble_eq_true rfl) dX3_placed_17 rfl (fun v_ wn_ hv_ => ?_)
      have vc := vc.2
      have vc := vc.2
      have vc := vc.2
      have vc := vc.2
      obtain ⟨r_26, placing2_27, best2_28, rfl, rfl, e_29⟩ := hv_
      obtain ⟨rfl, rfl⟩ := e_29
      refine g_cs (cells2 := 0) (slots2 := 0) (ws2 := [(mo, .inr (2, [.int (iN th), .ref am, .ref ae, .int (iN many), .ref ap, .ref ab, .ref aw, .int (iN coins), .ref ac, .ref an, .ref a0, .ref a1, .ref a2])), (am, .inl (T.2.1 0, 7, .inl (zA masses))), (ap, .inl (T.2.1 0, 7, .inl (zA placing2_27))), (ab, .inl (T.2.1 0, 7, .inl (zA (pbplac n best (pbest masses n mass (3 ^ n))))))]) rfl rfl rfl ?_
      refine g_st (st2 := [.int (iN (pbsize n (pbest masses n mass (3 ^ n))))]) rfl ?_
      have vc := vc placing2_27 
      refine g_goto (q := 24) cx dX3_placed_20 (by decide) ?_
      exact (key _) (pbsize n (pbest masses n mass (3 ^ n))) placing2_27 (pbplac n best (pbest masses n mass (3 ^ n))) vc rfl

theorem k_X3_placed (l : Launch) (hlt : l.stackTraces = false) (T : GT) (mo : Nat) (am : Nat) (ae : Nat) (ap : Nat) (ab : Nat) (aw : Nat) (ac : Nat) (an : Nat) (a0 : Nat) (a1 : Nat) (a2 : Nat) (th : Int) (many : Int) (coins : Int) (masses : Nat → Int) (placing : Nat → Int) (best : Nat → Int) (mass : Int) (weight : Int) (n : Nat) (hp0 : many = n) (hp1 : n ≤ 7) (hp2 : msOK n masses) (hp3 : -2147483648 ≤ mass ∧ mass < 2147483648) (hp4 : -2147483648 ≤ weight ∧ weight < 2147483648) : MW l T yX3_placed cX3_placed 4 (some .int) ({ frames := 2, cells := 0, slots := 0, locals := 49 }) [.ref mo, .int (iN mass), .int (iN weight)] [(mo, .inr (2, [.int (iN th), .ref am, .ref ae, .int (iN many), .ref ap, .ref ab, .ref aw, .int (iN coins), .ref ac, .ref an, .ref a0, .ref a1, .ref a2])), (am, .inl (T.2.1 0, 7, .inl (zA masses))), (ap, .inl (T.2.1 0, 7, .inl (zA placing))), (ab, .inl (T.2.1 0, 7, .inl (zA best)))] (fun v_ wn_ => ∃ (r : Int), ∃ (th2 : Int), ∃ (placing2 : Nat → Int), ∃ (best2 : Nat → Int), v_ = some (.int (iN r)) ∧ wn_ = [(mo, .inr (2, [.int (iN th2), .ref am, .ref ae, .int (iN many), .ref ap, .ref ab, .ref aw, .int (iN coins), .ref ac, .ref an, .ref a0, .ref a1, .ref a2])), (am, .inl (T.2.1 0, 7, .inl (zA masses))), (ap, .inl (T.2.1 0, 7, .inl (zA placing2))), (ab, .inl (T.2.1 0, 7, .inl (zA best2)))] ∧ r = (if (1 ≤ mass ∧ mass ≤ 4000) ∧ (0 ≤ weight ∧ weight < n) then (match pbest masses n mass (3 ^ n) with | none => 0 | some q => trit q (n - 1 - weight.toNat)) else 0) ∧ th2 = (if 1 ≤ mass ∧ mass ≤ 4000 then (if 0 ≤ weight ∧ weight < n then (match pbest masses n mass (3 ^ n) with | none => 3 | some _ => 0) else 2) else 1)) 0 0 := by
  refine w_X3_placed l hlt T mo am ae ap ab aw ac an a0 a1 a2 th many coins masses placing best mass weight n (I24 := fun size pl bst => (1 ≤ mass ∧ mass ≤ 4000) ∧ (0 ≤ weight ∧ weight < n) ∧ size = pbsize n (pbest masses n mass (3 ^ n)) ∧ bst = pbplac n best (pbest masses n mass (3 ^ n)) ∨ ¬ ((1 ≤ mass ∧ mass ≤ 4000) ∧ (0 ≤ weight ∧ weight < n)) ∧ size = -1) (M24 := fun _ _ _ => (0, 0, 0, 0)) _ ?_ ?_
  · subst hp0
    refine ⟨hp3, fun h => ?_, fun h => ⟨hp4, by omega, fun h1 => ?_, fun h1 => ⟨rfl, hp1, hp2, hp3, fun pl => ?_⟩⟩⟩
    all_goals (simp only [Bool.and_eq_true, Bool.and_eq_false_iff, decide_eq_true_eq, decide_eq_false_iff_not] at *)
    · exact Or.inr ⟨by omega, trivial⟩
    · exact Or.inr ⟨by omega, trivial⟩
    · exact Or.inl ⟨h, by omega, trivial, trivial⟩
  · subst hp0
    intro size pl bst hI
    have hz : ∀ o : Option Nat, -1 ≤ pbsize n o ∧ pbsize n o ≤ 7 := by
      intro o
      cases o with
      | none => simp [pbsize]
      | some q => have := psize_le n q; simp only [pbsize]; omega
    have hz2 : ∀ q : Nat, ¬ pbsize n (some q) = -1 := by intro q; simp only [pbsize]; omega
    refine ⟨hp3, fun h => ⟨hp4, by omega, fun h1 => ⟨?_, fun h2 => ⟨?_, ?_⟩, fun h2 => ?_⟩, fun h1 => ?_⟩, fun h => ?_⟩
    all_goals (simp only [Bool.and_eq_true, Bool.and_eq_false_iff, decide_eq_true_eq, decide_eq_false_iff_not] at h)
    all_goals (try simp only [Bool.and_eq_true, Bool.and_eq_false_iff, decide_eq_true_eq, decide_eq_false_iff_not] at h1)
    · rcases hI with ⟨a, b, c, d⟩ | ⟨a, b⟩
      · have := hz (pbest masses n mass (3 ^ n))
        omega
      · omega
    · omega
    · rcases hI with ⟨a, b, c, d⟩ | ⟨a, b⟩
      · rw [if_pos ⟨a, b⟩, if_pos a, if_pos b, d]
        rw [c] at h2
        cases hq : pbest masses n mass (3 ^ n) with
        | none => rw [hq] at h2; exact absurd rfl h2
        | some q => exact ⟨plac_at (by omega), rfl⟩
      · exact absurd b h2
    · rcases hI with ⟨a, b, c, d⟩ | ⟨a, b⟩
      · rw [if_pos ⟨a, b⟩, if_pos a, if_pos b]
        rw [c] at h2
        cases hq : pbest masses n mass (3 ^ n) with
        | none => exact ⟨rfl, rfl⟩
        | some q => rw [hq] at h2; exact absurd h2 (hz2 q)
      · exact absurd ⟨h, by omega, by omega⟩ a
    · rw [if_neg (by omega), if_pos h, if_neg (by omega)]
      exact ⟨rfl, rfl⟩
    · rw [if_neg (by omega), if_neg (by omega)]
      exact ⟨rfl, rfl⟩
