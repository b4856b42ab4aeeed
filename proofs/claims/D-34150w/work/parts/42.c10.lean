def crF (ms : Nat → Int) (n : Nat) : Nat → Int → Bool
  | 0, r => decide (r = 0)
  | d + 1, r => if r ≤ 0 then decide (r = 0) else crF ms n d (r - ms (n - (d + 1))) || crF ms n d r

set_option maxRecDepth 100000 in
set_option maxHeartbeats 4000000 in
theorem w_X1_canReach (l : Launch) (hlt : l.stackTraces = false) (T : GT) (xo : Nat) (al : Nat) (bk : Nat) (pk : Nat) (nd : Nat) (wr : Bool) (co : Int) (hv : Int) (lt : Int) (da : Nat) (mcn : Int32) (cap : Nat) (el : Nat → Option Nat) (wa : Nat → Nat) (n : Nat) (ms : Nat → Int) (es : Nat → Int) (w : Int) (rest : Int) (d : Nat) (rec_ : ∀ (w : Int) (rest : Int) (j : Nat), (j < d) → (j ≤ n ∧ w = (n : Int) - j) → (-500 ≤ rest ∧ rest ≤ 4000) → MR l T yX1_canReach cX1_canReach 3 (some .boolean) ({ frames := 3 * j + 6, cells := 0, slots := 0, locals := 60 * j + 200 }) [.ref xo, .int (iN w), .int (iN rest)] ((xo, .inr (0, [.ref al, .ref bk, .ref pk, .int (bI wr), .int (iN co), .int (iN hv), .int (iN lt), .ref nd])) :: ((al, .inr (4, [.int mcn, .ref da, .int (iN ((n : Nat) : Int))])) :: ((da, .inl (T.2.1 5, cap, .inr (.inr (.inr (.inr el))))) :: ((PW n wa ms es) ++ [])))) (fun v_ => ∃ (b : Bool), v_ = some (.int (bI b)) ∧ b = (crF ms n j rest)))  (post : Bool → Prop) (v0_ : (-2147483648 ≤ rest ∧ rest < 2147483648) ∧ ((rest ≤ 0 → ((-2147483648 ≤ rest ∧ rest < 2147483648) ∧ ((¬ rest = 0 → (post false)) ∧ (rest = 0 → (post true))))) ∧ (0 < rest → ((-2147483648 ≤ w ∧ w < 2147483648) ∧ ((-2147483648 ≤ ((n : Nat) : Int) ∧ ((n : Nat) : Int) < 2147483648) ∧ ((¬ w = ((n : Nat) : Int) → ((0 ≤ w ∧ w < ((n : Nat) : Int)) ∧ ((-2147483648 ≤ ((n : Nat) : Int) ∧ ((n : Nat) : Int) < 2147483648) ∧ ((0 ≤ w ∧ w < cap) ∧ ((cap < 2147483648) ∧ ((el w.toNat = some (wa w.toNat)) ∧ ((w.toNat < n) ∧ ((w.toNat < n) ∧ (((Nat.pred d) < d) ∧ (((Nat.pred d) ≤ n ∧ (w + 1) = (n : Int) - (Nat.pred d)) ∧ ((-500 ≤ (rest - (ms w.toNat)) ∧ (rest - (ms w.toNat)) ≤ 4000) ∧ (((crF ms n (Nat.pred d) (rest - (ms w.toNat))) = true → (post true)) ∧ ((crF ms n (Nat.pred d) (rest - (ms w.toNat))) = false → (((Nat.pred d) < d) ∧ (((Nat.pred d) ≤ n ∧ (w + 1) = (n : Int) - (Nat.pred d)) ∧ ((-500 ≤ rest ∧ rest ≤ 4000) ∧ (((crF ms n (Nat.pred d) rest) = false → (post false)) ∧ ((crF ms n (Nat.pred d) rest) = true → (post true))))))))))))))))))) ∧ (w = ((n : Nat) : Int) → ((-2147483648 ≤ rest ∧ rest < 2147483648) ∧ ((¬ rest = 0 → (post false)) ∧ (rest = 0 → (post true)))))))))))  : MR l T yX1_canReach cX1_canReach 3 (some .boolean) ({ frames := 3 * d + 6, cells := 0, slots := 0, locals := 60 * d + 200 }) [.ref xo, .int (iN w), .int (iN rest)] ((xo, .inr (0, [.ref al, .ref bk, .ref pk, .int (bI wr), .int (iN co), .int (iN hv), .int (iN lt), .ref nd])) :: ((al, .inr (4, [.int mcn, .ref da, .int (iN ((n : Nat) : Int))])) :: ((da, .inl (T.2.1 5, cap, .inr (.inr (.inr (.inr el))))) :: ((PW n wa ms es) ++ [])))) (fun v_ => ∃ (b : Bool), v_ = some (.int (bI b)) ∧ post b) := by
  refine MR.start hlt (by decide) (lv0 := [some (.ref xo), some (.int (iN w)), some (.int (iN rest))]) rfl (Nat.le_of_ble_eq_true rfl) rfl ?_
  intro p e R s m args below meth c cx hr hST
  have vc := v0_
  refine g_iload_n (q := 1) cx dX1_canReach_0 rfl rfl ?_
  refine g_if_leZ (q := 4) (tg := 17) cx vc.1 dX1_canReach_1 (by decide) rfl (fun h_1 => ?_) (fun h_1 => ?_)
  · have vc := vc.2.1 h_1
    refine g_iload_n (q := 18) cx dX1_canReach_17 rfl rfl ?_
    refine g_if_neZ (q := 21) (tg := 25) cx vc.1 dX1_canReach_18 (by decide) rfl (fun h_2 => ?_) (fun h_2 => ?_)
    · have vc := vc.2.1 h_2
      refine g_iconst (q := 26) (v := iN 0) cx dX1_canReach_25 rfl rfl ?_
      exact g_iretR cx hr (by decide) ⟨false, rfl, vc⟩ dX1_canReach_26
    · have vc := vc.2.2 h_2
      refine g_iconst (q := 22) (v := iN 1) cx dX1_canReach_21 rfl rfl ?_
      refine g_goto (q := 26) cx dX1_canReach_22 (by decide) ?_
      exact g_iretR cx hr (by decide) ⟨true, rfl, vc⟩ dX1_canReach_26
  · have vc := vc.2.2 h_1
    refine g_iload_n (q := 5) cx dX1_canReach_4 rfl rfl ?_
    refine g_aload_n (q := 6) cx dX1_canReach_5 rfl rfl ?_
    refine g_get (q := 9) cx k_cX1 0 rfl 0 (by decide) q150 (Or.inl rfl) rfl dX1_canReach_6 rfl ?_
    refine g_cFr (q := 14) (b := al) (As := []) (wr := ((xo, .inr (0, [.ref al, .ref bk, .ref pk, .int (bI wr), .int (iN co), .int (iN hv), .int (iN lt), .ref nd])) :: ((PW n wa ms es) ++ []))) (st := [.int (iN w)]) cx hST (k_J2_size l hlt T al da mcn ((n : Nat) : Int) cap el) q181 f_J2_size rfl 1 rfl rfl (g_permB (α := Nat × va_E) (L := [[(xo, .inr (0, [.ref al, .ref bk, .ref pk, .int (bI wr), .int (iN co), .int (iN hv), .int (iN lt), .ref nd]))], [(al, .inr (4, [.int mcn, .ref da, .int (iN ((n : Nat) : Int))]))], [(da, .inl (T.2.1 5, cap, .inr (.inr (.inr (.inr el)))))], (PW n wa ms es)]) (R := [[(xo, .inr (0, [.ref al, .ref bk, .ref pk, .int (bI wr), .int (iN co), .int (iN hv), .int (iN lt), .ref nd]))], (PW n wa ms es)]) (C := [[(al, .inr (4, [.int mcn, .ref da, .int (iN ((n : Nat) : Int))]))], [(da, .inl (T.2.1 5, cap, .inr (.inr (.inr (.inr el)))))]]) [0, 3, 1, 2] rfl rfl rfl rfl rfl) (g_rmO (by first | exact Nat.le_of_ble_eq_true rfl | omega | (dsimp only; omega)) (by first | exact Nat.le_of_ble_eq_true rfl | omega | (dsimp only; omega)) (by first | exact Nat.le_of_ble_eq_true rfl | omega | (dsimp only; omega)) (by first | exact Nat.le_of_ble_eq_true rfl | omega | (dsimp only; omega)) rfl rfl) (Nat.le_of_ble_eq_true rfl) dX1_canReach_9 rfl (fun v_ hv_ => ?_)
    obtain ⟨r_3, rfl, e_4⟩ := hv_
    subst e_4
    refine g_st (st2 := [.int (iN ((n : Nat) : Int)), .int (iN w)]) rfl ?_
    refine g_icmp_neZ (q := 17) (tg := 27) cx vc.1 vc.2.1 dX1_canReach_14 (by decide) rfl (fun h_5 => ?_) (fun h_5 => ?_)
    · have vc := vc.2.2.1 h_5
      refine g_aload_n (q := 28) cx dX1_canReach_27 rfl rfl ?_
      refine g_iload_n (q := 29) cx dX1_canReach_28 rfl rfl ?_
      refine g_iconst (q := 30) (v := iN 1) cx dX1_canReach_29 rfl rfl ?_
      refine g_iaddZ (q := 31) cx dX1_canReach_30 rfl ?_
      refine g_iload_n (q := 32) cx dX1_canReach_31 rfl rfl ?_
      refine g_aload_n (q := 33) cx dX1_canReach_32 rfl rfl ?_
      refine g_get (q := 36) cx k_cX1 0 rfl 0 (by decide) q150 (Or.inl rfl) rfl dX1_canReach_33 rfl ?_
      refine g_iload_n (q := 37) cx dX1_canReach_36 rfl rfl ?_
      refine g_cFr (q := 42) (b := al) (As := [.int (iN w)]) (wr := ((xo, .inr (0, [.ref al, .ref bk, .ref pk, .int (bI wr), .int (iN co), .int (iN hv), .int (iN lt), .ref nd])) :: ((PW n wa ms es) ++ []))) (st := [.int (iN rest), .int (iN (w + 1)), .ref xo]) cx hST (k_J2_get l hlt T al da mcn ((n : Nat) : Int) cap el w (wa w.toNat) (vc.1) (vc.2.1) (vc.2.2.1) (vc.2.2.2.1) (vc.2.2.2.2.1)) q822 f_J2_get rfl 1 rfl rfl (g_permB (α := Nat × va_E) (L := [[(xo, .inr (0, [.ref al, .ref bk, .ref pk, .int (bI wr), .int (iN co), .int (iN hv), .int (iN lt), .ref nd]))], [(al, .inr (4, [.int mcn, .ref da, .int (iN ((n : Nat) : Int))]))], [(da, .inl (T.2.1 5, cap, .inr (.inr (.inr (.inr el)))))], (PW n wa ms es)]) (R := [[(xo, .inr (0, [.ref al, .ref bk, .ref pk, .int (bI wr), .int (iN co), .int (iN hv), .int (iN lt), .ref nd]))], (PW n wa ms es)]) (C := [[(al, .inr (4, [.int mcn, .ref da, .int (iN ((n : Nat) : Int))]))], [(da, .inl (T.2.1 5, cap, .inr (.inr (.inr (.inr el)))))]]) [0, 3, 1, 2] rfl rfl rfl rfl rfl) (g_rmO (by first | exact Nat.le_of_ble_eq_true rfl | omega | (dsimp only; omega)) (by first | exact Nat.le_of_ble_eq_true rfl | omega | (dsimp only; omega)) (by first | exact Nat.le_of_ble_eq_true rfl | omega | (dsimp only; omega)) (by first | exact Nat.le_of_ble_eq_true rfl | omega | (dsimp only; omega)) rfl rfl) (Nat.le_of_ble_eq_true rfl) dX1_canReach_37 rfl (fun v_ hv_ => ?_)
      have vc := vc.2
      have vc := vc.2
      have vc := vc.2
      have vc := vc.2
      have vc := vc.2
      obtain ⟨v_6, rfl, e_7⟩ := hv_
      subst e_7
      refine g_st (st2 := [.ref (wa w.toNat), .int (iN rest), .int (iN (w + 1)), .ref xo]) rfl ?_
      refine g_castS (q := 45) cx 3 (g_mh (g_mh (g_mh (g_ml (PW_mem vc.1))))) rfl q712 dX1_canReach_42 rfl ?_
      have vc := vc.2
      refine g_cVr1 (q := 48) (b := (wa w.toNat)) (As := []) (st := [.int (iN rest), .int (iN (w + 1)), .ref xo]) cx hST (k_X4_mass l hlt T (wa w.toNat) (ms w.toNat) (es w.toNat)) q844 s_X4_mass rfl (g_mh (g_mh (g_mh (g_ml (PW_mem vc.1))))) rfl (g_rmO (by first | exact Nat.le_of_ble_eq_true rfl | omega | (dsimp only; omega)) (by first | exact Nat.le_of_ble_eq_true rfl | omega | (dsimp only; omega)) (by first | exact Nat.le_of_ble_eq_true rfl | omega | (dsimp only; omega)) (by first | exact Nat.le_of_ble_eq_true rfl | omega | (dsimp only; omega)) rfl rfl) (Nat.le_of_ble_eq_true rfl) dX1_canReach_45 rfl (fun v_ hv_ => ?_)
      have vc := vc.2
      obtain ⟨r_8, rfl, e_9⟩ := hv_
      subst e_9
      refine g_st (st2 := [.int (iN (ms w.toNat)), .int (iN rest), .int (iN (w + 1)), .ref xo]) rfl ?_
      refine g_isubZ (q := 49) cx dX1_canReach_48 rfl ?_
      refine g_cVr (q := 52) (b := xo) (As := [.int (iN (w + 1)), .int (iN (rest - (ms w.toNat)))]) (wr := []) (st := []) cx hST (rec_ (w + 1) (rest - (ms w.toNat)) (Nat.pred d) (vc.1) (vc.2.1) (vc.2.2.1)) q863 s_X1_canReach rfl 0 rfl rfl g_perm1 (g_rmO (by first | exact Nat.le_of_ble_eq_true rfl | omega | (dsimp only; omega)) (by first | exact Nat.le_of_ble_eq_true rfl | omega | (dsimp only; omega)) (by first | exact Nat.le_of_ble_eq_true rfl | omega | (dsimp only; omega)) (by first | exact Nat.le_of_ble_eq_true rfl | omega | (dsimp only; omega)) rfl rfl) (Nat.le_of_ble_eq_true rfl) dX1_canReach_49 rfl (fun v_ hv_ => ?_)
      have vc := vc.2
      have vc := vc.2
      have vc := vc.2
      obtain ⟨b_10, rfl, e_11⟩ := hv_
      subst e_11
      refine g_st (st2 := [.int (bI (crF ms n (Nat.pred d) (rest - (ms w.toNat))))]) rfl ?_
      refine g_if_ne (q := 55) (tg := 66) cx dX1_canReach_52 (by decide) rfl (fun h_12 => ?_) (fun h_12 => ?_)
      · have vc := vc.1 (bI_n0.mp h_12)
        refine g_iconst (q := 67) (v := iN 1) cx dX1_canReach_66 rfl rfl ?_
        refine g_goto (q := 71) cx dX1_canReach_67 (by decide) ?_
        exact g_iretR cx hr (by decide) ⟨true, rfl, vc⟩ dX1_canReach_71
      · have vc := vc.2 (bI_0.mp h_12)
        refine g_aload_n (q := 56) cx dX1_canReach_55 rfl rfl ?_
        refine g_iload_n (q := 57) cx dX1_canReach_56 rfl rfl ?_
        refine g_iconst (q := 58) (v := iN 1) cx dX1_canReach_57 rfl rfl ?_
        refine g_iaddZ (q := 59) cx dX1_canReach_58 rfl ?_
        refine g_iload_n (q := 60) cx dX1_canReach_59 rfl rfl ?_
        refine g_cVr (q := 63) (b := xo) (As := [.int (iN (w + 1)), .int (iN rest)]) (wr := []) (st := []) cx hST (rec_ (w + 1) rest (Nat.pred d) (vc.1) (vc.2.1) (vc.2.2.1)) q863 s_X1_canReach rfl 0 rfl rfl g_perm1 (g_rmO (by first | exact Nat.le_of_ble_eq_true rfl | omega | (dsimp only; omega)) (by first | exact Nat.le_of_ble_eq_true rfl | omega | (dsimp only; omega)) (by first | exact Nat.le_of_ble_eq_true rfl | omega | (dsimp only; omega)) (by first | exact Nat.le_of_ble_eq_true rfl | omega | (dsimp only; omega)) rfl rfl) (Nat.le_of_ble_eq_true rfl) dX1_canReach_60 rfl (fun v_ hv_ => ?_)
        have vc := vc.2
        have vc := vc.2
        have vc := vc.2
        obtain ⟨b_13, rfl, e_14⟩ := hv_
        subst e_14
        refine g_st (st2 := [.int (bI (crF ms n (Nat.pred d) rest))]) rfl ?_
        refine g_if_eq (q := 66) (tg := 70) cx dX1_canReach_63 (by decide) rfl (fun h_15 => ?_) (fun h_15 => ?_)
        · have vc := vc.1 (bI_0.mp h_15)
          refine g_iconst (q := 71) (v := iN 0) cx dX1_canReach_70 rfl rfl ?_
          exact g_iretR cx hr (by decide) ⟨false, rfl, vc⟩ dX1_canReach_71
        · have vc := vc.2 (bI_n0.mp h_15)
          refine g_iconst (q := 67) (v := iN 1) cx dX1_canReach_66 rfl rfl ?_
          refine g_goto (q := 71) cx dX1_canReach_67 (by decide) ?_
          exact g_iretR cx hr (by decide) ⟨true, rfl, vc⟩ dX1_canReach_71
    · have vc := vc.2.2.2 h_5
      refine g_iload_n (q := 18) cx dX1_canReach_17 rfl rfl ?_
      refine g_if_neZ (q := 21) (tg := 25) cx vc.1 dX1_canReach_18 (by decide) rfl (fun h_16 => ?_) (fun h_16 => ?_)
      · have vc := vc.2.1 h_16
        refine g_iconst (q := 26) (v := iN 0) cx dX1_canReach_25 rfl rfl ?_
        exact g_iretR cx hr (by decide) ⟨false, rfl, vc⟩ dX1_canReach_26
      · have vc := vc.2.2 h_16
        refine g_iconst (q := 22) (v := iN 1) cx dX1_canReach_21 rfl rfl ?_
        refine g_goto (q := 26) cx dX1_canReach_22 (by decide) ?_
        exact g_iretR cx hr (by decide) ⟨true, rfl, vc⟩ dX1_canReach_26

theorem k_X1_canReach (l : Launch) (hlt : l.stackTraces = false) (T : GT) (xo : Nat) (al : Nat) (bk : Nat) (pk : Nat) (nd : Nat) (wr : Bool) (co : Int) (hv : Int) (lt : Int) (da : Nat) (mcn : Int32) (cap : Nat) (el : Nat → Option Nat) (wa : Nat → Nat) (n : Nat) (ms : Nat → Int) (es : Nat → Int) (w : Int) (rest : Int) (d : Nat) (hp0 : n ≤ 7) (hp1 : n ≤ cap ∧ cap < 2147483648) (hp2 : ∀ k, k < n → el k = some (wa k)) (hp3 : ∀ k, k < n → 1 ≤ ms k ∧ ms k ≤ 500) (hp4 : d ≤ n ∧ w = (n : Int) - d) (hp5 : -500 ≤ rest ∧ rest ≤ 4000) : MR l T yX1_canReach cX1_canReach 3 (some .boolean) ({ frames := 3 * d + 6, cells := 0, slots := 0, locals := 60 * d + 200 }) [.ref xo, .int (iN w), .int (iN rest)] ((xo, .inr (0, [.ref al, .ref bk, .ref pk, .int (bI wr), .int (iN co), .int (iN hv), .int (iN lt), .ref nd])) :: ((al, .inr (4, [.int mcn, .ref da, .int (iN ((n : Nat) : Int))])) :: ((da, .inl (T.2.1 5, cap, .inr (.inr (.inr (.inr el))))) :: ((PW n wa ms es) ++ [])))) (fun v_ => ∃ (b : Bool), v_ = some (.int (bI b)) ∧ b = (crF ms n d rest)) := by
  induction d using Nat.strongRecOn generalizing w rest with
  | _ d ih =>
  refine w_X1_canReach l hlt T xo al bk pk nd wr co hv lt da mcn cap el wa n ms es w rest d (fun w rest j hj h1 h2 => ih j hj w rest h1 h2) _ ?_
  have hw : 0 < d → w.toNat = n - (Nat.pred d + 1) := by have := Nat.pred_eq_sub_one (n := d); omega
  have hpd : 0 < d → crF ms n d rest = if rest ≤ 0 then decide (rest = 0) else crF ms n (Nat.pred d) (rest - ms (n - (Nat.pred d + 1))) || crF ms n (Nat.pred d) rest := by
    intro h
    obtain ⟨q, rfl⟩ : ∃ q, d = q + 1 := ⟨d - 1, by omega⟩
    rfl
  have hp : Nat.pred d = d - 1 := rfl
  have hz : d = 0 → crF ms n d rest = decide (rest = 0) := by intro h; subst h; rfl
  have hneg : rest ≤ 0 → crF ms n d rest = decide (rest = 0) := by
    intro h
    cases d with
    | zero => rfl
    | succ q => rw [hpd (by omega), if_pos h]
  refine ⟨by omega, fun h => ⟨by omega, fun h2 => ?_, fun h2 => ?_⟩, fun h => ⟨by omega, by omega, fun h2 => ?_, fun h2 => ⟨by omega, fun h3 => ?_, fun h3 => ?_⟩⟩⟩
  · rw [hneg h, decide_eq_false h2]
  · rw [hneg h, decide_eq_true h2]
  · have hd : 0 < d := by omega
    have hm := hp3 w.toNat (by omega)
    have e := hpd hd
    rw [if_neg (by omega), ← hw hd] at e
    rw [e]
    refine ⟨by omega, by omega, by omega, hp1.2, hp2 _ (by omega), by omega, by omega, by omega, by omega, by omega, fun h3 => ?_, fun h3 => ⟨by omega, by omega, by omega, fun h4 => ?_, fun h4 => ?_⟩⟩
    · rw [h3]; rfl
    · rw [h3, h4]; rfl
    · rw [h3, h4]; rfl
  · rw [hz (by omega), decide_eq_false h3]
  · rw [hz (by omega), decide_eq_true h3]
