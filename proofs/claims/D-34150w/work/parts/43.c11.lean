def plF (ms : Nat → Int) (n : Nat) : Nat → Int → Nat
  | 0, r => if r = 0 then 1 else 0
  | d + 1, r => plF ms n d (r - ms (n - (d + 1))) + plF ms n d r + plF ms n d (r + ms (n - (d + 1)))
theorem plF_le (ms : Nat → Int) (n : Nat) : ∀ d r, plF ms n d r ≤ 3 ^ d
  | 0, r => by unfold plF; split <;> decide
  | d + 1, r => by
    have h1 := plF_le ms n d (r - ms (n - (d + 1)))
    have h2 := plF_le ms n d r
    have h3 := plF_le ms n d (r + ms (n - (d + 1)))
    rw [Nat.pow_succ]
    unfold plF
    omega

set_option maxRecDepth 100000 in
set_option maxHeartbeats 4000000 in
theorem w_X1_placings (l : Launch) (hlt : l.stackTraces = false) (T : GT) (xo : Nat) (al : Nat) (bk : Nat) (pk : Nat) (nd : Nat) (wr : Bool) (co : Int) (hv : Int) (lt : Int) (da : Nat) (mcn : Int32) (cap : Nat) (el : Nat → Option Nat) (wa : Nat → Nat) (n : Nat) (ms : Nat → Int) (es : Nat → Int) (w : Int) (rest : Int) (d : Nat) (rec_ : ∀ (w : Int) (rest : Int) (j : Nat), (j < d) → (j ≤ n ∧ w = (n : Int) - j) → (-100000 + 500 * (j : Int) ≤ rest ∧ rest ≤ 100000 - 500 * (j : Int)) → MR l T yX1_placings cX1_placings 4 (some .int) ({ frames := 3 * j + 6, cells := 0, slots := 0, locals := 60 * j + 200 }) [.ref xo, .int (iN w), .int (iN rest)] ((xo, .inr (0, [.ref al, .ref bk, .ref pk, .int (bI wr), .int (iN co), .int (iN hv), .int (iN lt), .ref nd])) :: ((al, .inr (4, [.int mcn, .ref da, .int (iN ((n : Nat) : Int))])) :: ((da, .inl (T.2.1 5, cap, .inr (.inr (.inr (.inr el))))) :: ((PW n wa ms es) ++ [])))) (fun v_ => ∃ (r : Int), v_ = some (.int (iN r)) ∧ r = ((plF ms n j rest : Nat) : Int)))  (post : Int → Prop) (v0_ : (-2147483648 ≤ w ∧ w < 2147483648) ∧ ((-2147483648 ≤ ((n : Nat) : Int) ∧ ((n : Nat) : Int) < 2147483648) ∧ ((¬ w = ((n : Nat) : Int) → ((0 ≤ w ∧ w < ((n : Nat) : Int)) ∧ ((-2147483648 ≤ ((n : Nat) : Int) ∧ ((n : Nat) : Int) < 2147483648) ∧ ((0 ≤ w ∧ w < cap) ∧ ((cap < 2147483648) ∧ ((el w.toNat = some (wa w.toNat)) ∧ ((w.toNat < n) ∧ ((w.toNat < n) ∧ (((Nat.pred d) < d) ∧ (((Nat.pred d) ≤ n ∧ (w + 1) = (n : Int) - (Nat.pred d)) ∧ ((-100000 + 500 * ((Nat.pred d) : Int) ≤ (rest - (ms w.toNat)) ∧ (rest - (ms w.toNat)) ≤ 100000 - 500 * ((Nat.pred d) : Int)) ∧ (((Nat.pred d) < d) ∧ (((Nat.pred d) ≤ n ∧ (w + 1) = (n : Int) - (Nat.pred d)) ∧ ((-100000 + 500 * ((Nat.pred d) : Int) ≤ rest ∧ rest ≤ 100000 - 500 * ((Nat.pred d) : Int)) ∧ (((Nat.pred d) < d) ∧ (((Nat.pred d) ≤ n ∧ (w + 1) = (n : Int) - (Nat.pred d)) ∧ ((-100000 + 500 * ((Nat.pred d) : Int) ≤ (rest + (ms w.toNat)) ∧ (rest + (ms w.toNat)) ≤ 100000 - 500 * ((Nat.pred d) : Int)) ∧ (post ((((plF ms n (Nat.pred d) (rest - (ms w.toNat)) : Nat) : Int) + ((plF ms n (Nat.pred d) rest : Nat) : Int)) + ((plF ms n (Nat.pred d) (rest + (ms w.toNat)) : Nat) : Int)))))))))))))))))))) ∧ (w = ((n : Nat) : Int) → ((-2147483648 ≤ rest ∧ rest < 2147483648) ∧ ((¬ rest = 0 → (post 0)) ∧ (rest = 0 → (post 1))))))))  : MR l T yX1_placings cX1_placings 4 (some .int) ({ frames := 3 * d + 6, cells := 0, slots := 0, locals := 60 * d + 200 }) [.ref xo, .int (iN w), .int (iN rest)] ((xo, .inr (0, [.ref al, .ref bk, .ref pk, .int (bI wr), .int (iN co), .int (iN hv), .int (iN lt), .ref nd])) :: ((al, .inr (4, [.int mcn, .ref da, .int (iN ((n : Nat) : Int))])) :: ((da, .inl (T.2.1 5, cap, .inr (.inr (.inr (.inr el))))) :: ((PW n wa ms es) ++ [])))) (fun v_ => ∃ (r : Int), v_ = some (.int (iN r)) ∧ post r) := by
  refine MR.start hlt (by decide) (lv0 := [some (.ref xo), some (.int (iN w)), some (.int (iN rest)), none]) rfl (Nat.le_of_ble_eq_true rfl) rfl ?_
  intro p e R s m args below meth c cx hr hST
  have vc := v0_
  refine g_iload_n (q := 1) cx dX1_placings_0 rfl rfl ?_
  refine g_aload_n (q := 2) cx dX1_placings_1 rfl rfl ?_
  refine g_get (q := 5) cx k_cX1 0 rfl 0 (by decide) q150 (Or.inl rfl) rfl dX1_placings_2 rfl ?_
  refine g_cFr (q := 10) (b := al) (As := []) (wr := ((xo, .inr (0, [.ref al, .ref bk, .ref pk, .int (bI wr), .int (iN co), .int (iN hv), .int (iN lt), .ref nd])) :: ((PW n wa ms es) ++ []))) (st := [.int (iN w)]) cx hST (k_J2_size l hlt T al da mcn ((n : Nat) : Int) cap el) q181 f_J2_size rfl 1 rfl rfl (g_permB (α := Nat × va_E) (L := [[(xo, .inr (0, [.ref al, .ref bk, .ref pk, .int (bI wr), .int (iN co), .int (iN hv), .int (iN lt), .ref nd]))], [(al, .inr (4, [.int mcn, .ref da, .int (iN ((n : Nat) : Int))]))], [(da, .inl (T.2.1 5, cap, .inr (.inr (.inr (.inr el)))))], (PW n wa ms es)]) (R := [[(xo, .inr (0, [.ref al, .ref bk, .ref pk, .int (bI wr), .int (iN co), .int (iN hv), .int (iN lt), .ref nd]))], (PW n wa ms es)]) (C := [[(al, .inr (4, [.int mcn, .ref da, .int (iN ((n : Nat) : Int))]))], [(da, .inl (T.2.1 5, cap, .inr (.inr (.inr (.inr el)))))]]) [0, 3, 1, 2] rfl rfl rfl rfl rfl) (g_rmO (by first | exact Nat.le_of_ble_eq_true rfl | omega | (dsimp only; omega)) (by first | exact Nat.le_of_ble_eq_true rfl | omega | (dsimp only; omega)) (by first | exact Nat.le_of_ble_eq_true rfl | omega | (dsimp only; omega)) (by first | exact Nat.le_of_ble_eq_true rfl | omega | (dsimp only; omega)) rfl rfl) (Nat.le_of_ble_eq_true rfl) dX1_placings_5 rfl (fun v_ hv_ => ?_)
  obtain ⟨r_1, rfl, e_2⟩ := hv_
  subst e_2
  refine g_st (st2 := [.int (iN ((n : Nat) : Int)), .int (iN w)]) rfl ?_
  refine g_icmp_neZ (q := 13) (tg := 23) cx vc.1 vc.2.1 dX1_placings_10 (by decide) rfl (fun h_3 => ?_) (fun h_3 => ?_)
  · have vc := vc.2.2.1 h_3
    refine g_aload_n (q := 24) cx dX1_placings_23 rfl rfl ?_
    refine g_get (q := 27) cx k_cX1 0 rfl 0 (by decide) q150 (Or.inl rfl) rfl dX1_placings_24 rfl ?_
    refine g_iload_n (q := 28) cx dX1_placings_27 rfl rfl ?_
    refine g_cFr (q := 33) (b := al) (As := [.int (iN w)]) (wr := ((xo, .inr (0, [.ref al, .ref bk, .ref pk, .int (bI wr), .int (iN co), .int (iN hv), .int (iN lt), .ref nd])) :: ((PW n wa ms es) ++ []))) (st := []) cx hST (k_J2_get l hlt T al da mcn ((n : Nat) : Int) cap el w (wa w.toNat) (vc.1) (vc.2.1) (vc.2.2.1) (vc.2.2.2.1) (vc.2.2.2.2.1)) q822 f_J2_get rfl 1 rfl rfl (g_permB (α := Nat × va_E) (L := [[(xo, .inr (0, [.ref al, .ref bk, .ref pk, .int (bI wr), .int (iN co), .int (iN hv), .int (iN lt), .ref nd]))], [(al, .inr (4, [.int mcn, .ref da, .int (iN ((n : Nat) : Int))]))], [(da, .inl (T.2.1 5, cap, .inr (.inr (.inr (.inr el)))))], (PW n wa ms es)]) (R := [[(xo, .inr (0, [.ref al, .ref bk, .ref pk, .int (bI wr), .int (iN co), .int (iN hv), .int (iN lt), .ref nd]))], (PW n wa ms es)]) (C := [[(al, .inr (4, [.int mcn, .ref da, .int (iN ((n : Nat) : Int))]))], [(da, .inl (T.2.1 5, cap, .inr (.inr (.inr (.inr el)))))]]) [0, 3, 1, 2] rfl rfl rfl rfl rfl) (g_rmO (by first | exact Nat.le_of_ble_eq_true rfl | omega | (dsimp only; omega)) (by first | exact Nat.le_of_ble_eq_true rfl | omega | (dsimp only; omega)) (by first | exact Nat.le_of_ble_eq_true rfl | omega | (dsimp only; omega)) (by first | exact Nat.le_of_ble_eq_true rfl | omega | (dsimp only; omega)) rfl rfl) (Nat.le_of_ble_eq_true rfl) dX1_placings_28 rfl (fun v_ hv_ => ?_)
    have vc := vc.2
    have vc := vc.2
    have vc := vc.2
    have vc := vc.2
    have vc := vc.2
    obtain ⟨v_4, rfl, e_5⟩ := hv_
    subst e_5
    refine g_st (st2 := [.ref (wa w.toNat)]) rfl ?_
    refine g_castS (q := 36) cx 3 (g_mh (g_mh (g_mh (g_ml (PW_mem vc.1))))) rfl q712 dX1_placings_33 rfl ?_
    have vc := vc.2
    refine g_cVr1 (q := 39) (b := (wa w.toNat)) (As := []) (st := []) cx hST (k_X4_mass l hlt T (wa w.toNat) (ms w.toNat) (es w.toNat)) q844 s_X4_mass rfl (g_mh (g_mh (g_mh (g_ml (PW_mem vc.1))))) rfl (g_rmO (by first | exact Nat.le_of_ble_eq_true rfl | omega | (dsimp only; omega)) (by first | exact Nat.le_of_ble_eq_true rfl | omega | (dsimp only; omega)) (by first | exact Nat.le_of_ble_eq_true rfl | omega | (dsimp only; omega)) (by first | exact Nat.le_of_ble_eq_true rfl | omega | (dsimp only; omega)) rfl rfl) (Nat.le_of_ble_eq_true rfl) dX1_placings_36 rfl (fun v_ hv_ => ?_)
    have vc := vc.2
    obtain ⟨r_6, rfl, e_7⟩ := hv_
    subst e_7
    refine g_st (st2 := [.int (iN (ms w.toNat))]) rfl ?_
    refine g_istore_n (q := 40) (lv2 := [some (.ref xo), some (.int (iN w)), some (.int (iN rest)), some (.int (iN (ms w.toNat)))]) cx dX1_placings_39 rfl (by decide) rfl rfl ?_
    refine g_aload_n (q := 41) cx dX1_placings_40 rfl rfl ?_
    refine g_iload_n (q := 42) cx dX1_placings_41 rfl rfl ?_
    refine g_iconst (q := 43) (v := iN 1) cx dX1_placings_42 rfl rfl ?_
    refine g_iaddZ (q := 44) cx dX1_placings_43 rfl ?_
    refine g_iload_n (q := 45) cx dX1_placings_44 rfl rfl ?_
    refine g_iload_n (q := 46) cx dX1_placings_45 rfl rfl ?_
    refine g_isubZ (q := 47) cx dX1_placings_46 rfl ?_
    refine g_cVr (q := 50) (b := xo) (As := [.int (iN (w + 1)), .int (iN (rest - (ms w.toNat)))]) (wr := []) (st := []) cx hST (rec_ (w + 1) (rest - (ms w.toNat)) (Nat.pred d) (vc.1) (vc.2.1) (vc.2.2.1)) q882 s_X1_placings rfl 0 rfl rfl g_perm1 (g_rmO (by first | exact Nat.le_of_ble_eq_true rfl | omega | (dsimp only; omega)) (by first | exact Nat.le_of_ble_eq_true rfl | omega | (dsimp only; omega)) (by first | exact Nat.le_of_ble_eq_true rfl | omega | (dsimp only; omega)) (by first | exact Nat.le_of_ble_eq_true rfl | omega | (dsimp only; omega)) rfl rfl) (Nat.le_of_ble_eq_true rfl) dX1_placings_47 rfl (fun v_ hv_ => ?_)
    have vc := vc.2
    have vc := vc.2
    have vc := vc.2
    obtain ⟨r_8, rfl, e_9⟩ := hv_
    subst e_9
    refine g_st (st2 := [.int (iN ((plF ms n (Nat.pred d) (rest - (ms w.toNat)) : Nat) : Int))]) rfl ?_
    refine g_aload_n (q := 51) cx dX1_placings_50 rfl rfl ?_
    refine g_iload_n (q := 52) cx dX1_placings_51 rfl rfl ?_
    refine g_iconst (q := 53) (v := iN 1) cx dX1_placings_52 rfl rfl ?_
    refine g_iaddZ (q := 54) cx dX1_placings_53 rfl ?_
    refine g_iload_n (q := 55) cx dX1_placings_54 rfl rfl ?_
    refine g_cVr (q := 58) (b := xo) (As := [.int (iN (w + 1)), .int (iN rest)]) (wr := []) (st := [.int (iN ((plF ms n (Nat.pred d) (rest - (ms w.toNat)) : Nat) : Int))]) cx hST (rec_ (w + 1) rest (Nat.pred d) (vc.1) (vc.2.1) (vc.2.2.1)) q882 s_X1_placings rfl 0 rfl rfl g_perm1 (g_rmO (by first | exact Nat.le_of_ble_eq_true rfl | omega | (dsimp only; omega)) (by first | exact Nat.le_of_ble_eq_true rfl | omega | (dsimp only; omega)) (by first | exact Nat.le_of_ble_eq_true rfl | omega | (dsimp only; omega)) (by first | exact Nat.le_of_ble_eq_true rfl | omega | (dsimp only; omega)) rfl rfl) (Nat.le_of_ble_eq_true rfl) dX1_placings_55 rfl (fun v_ hv_ => ?_)
    have vc := vc.2
    have vc := vc.2
    have vc := vc.2
    obtain ⟨r_10, rfl, e_11⟩ := hv_
    subst e_11
    refine g_st (st2 := [.int (iN ((plF ms n (Nat.pred d) rest : Nat) : Int)), .int (iN ((plF ms n (Nat.pred d) (rest - (ms w.toNat)) : Nat) : Int))]) rfl ?_
    refine g_iaddZ (q := 59) cx dX1_placings_58 rfl ?_
    refine g_aload_n (q := 60) cx dX1_placings_59 rfl rfl ?_
    refine g_iload_n (q := 61) cx dX1_placings_60 rfl rfl ?_
    refine g_iconst (q := 62) (v := iN 1) cx dX1_placings_61 rfl rfl ?_
    refine g_iaddZ (q := 63) cx dX1_placings_62 rfl ?_
    refine g_iload_n (q := 64) cx dX1_placings_63 rfl rfl ?_
    refine g_iload_n (q := 65) cx dX1_placings_64 rfl rfl ?_
    refine g_iaddZ (q := 66) cx dX1_placings_65 rfl ?_
    refine g_cVr (q := 69) (b := xo) (As := [.int (iN (w + 1)), .int (iN (rest + (ms w.toNat)))]) (wr := []) (st := [.int (iN (((plF ms n (Nat.pred d) (rest - (ms w.toNat)) : Nat) : Int) + ((plF ms n (Nat.pred d) rest : Nat) : Int)))]) cx hST (rec_ (w + 1) (rest + (ms w.toNat)) (Nat.pred d) (vc.1) (vc.2.1) (vc.2.2.1)) q882 s_X1_placings rfl 0 rfl rfl g_perm1 (g_rmO (by first | exact Nat.le_of_ble_eq_true rfl | omega | (dsimp only; omega)) (by first | exact Nat.le_of_ble_eq_true rfl | omega | (dsimp only; omega)) (by first | exact Nat.le_of_ble_eq_true rfl | omega | (dsimp only; omega)) (by first | exact Nat.le_of_ble_eq_true rfl | omega | (dsimp only; omega)) rfl rfl) (Nat.le_of_ble_eq_true rfl) dX1_placings_66 rfl (fun v_ hv_ => ?_)
    have vc := vc.2
    have vc := vc.2
    have vc := vc.2
    obtain ⟨r_12, rfl, e_13⟩ := hv_
    subst e_13
    refine g_st (st2 := [.int (iN ((plF ms n (Nat.pred d) (rest + (ms w.toNat)) : Nat) : Int)), .int (iN (((plF ms n (Nat.pred d) (rest - (ms w.toNat)) : Nat) : Int) + ((plF ms n (Nat.pred d) rest : Nat) : Int)))]) rfl ?_
    refine g_iaddZ (q := 70) cx dX1_placings_69 rfl ?_
    exact g_iretR cx hr rfl ⟨((((plF ms n (Nat.pred d) (rest - (ms w.toNat)) : Nat) : Int) + ((plF ms n (Nat.pred d) rest : Nat) : Int)) + ((plF ms n (Nat.pred d) (rest + (ms w.toNat)) : Nat) : Int)), rfl, vc⟩ dX1_placings_70
  · have vc := vc.2.2.2 h_3
    refine g_iload_n (q := 14) cx dX1_placings_13 rfl rfl ?_
    refine g_if_neZ (q := 17) (tg := 21) cx vc.1 dX1_placings_14 (by decide) rfl (fun h_14 => ?_) (fun h_14 => ?_)
    · have vc := vc.2.1 h_14
      refine g_iconst (q := 22) (v := iN 0) cx dX1_placings_21 rfl rfl ?_
      exact g_iretR cx hr rfl ⟨0, rfl, vc⟩ dX1_placings_22
    · have vc := vc.2.2 h_14
      refine g_iconst (q := 18) (v := iN 1) cx dX1_placings_17 rfl rfl ?_
      refine g_goto (q := 22) cx dX1_placings_18 (by decide) ?_
      exact g_iretR cx hr rfl ⟨1, rfl, vc⟩ dX1_placings_22

theorem k_X1_placings (l : Launch) (hlt : l.stackTraces = false) (T : GT) (xo : Nat) (al : Nat) (bk : Nat) (pk : Nat) (nd : Nat) (wr : Bool) (co : Int) (hv : Int) (lt : Int) (da : Nat) (mcn : Int32) (cap : Nat) (el : Nat → Option Nat) (wa : Nat → Nat) (n : Nat) (ms : Nat → Int) (es : Nat → Int) (w : Int) (rest : Int) (d : Nat) (hp0 : n ≤ 7) (hp1 : n ≤ cap ∧ cap < 2147483648) (hp2 : ∀ k, k < n → el k = some (wa k)) (hp3 : ∀ k, k < n → 1 ≤ ms k ∧ ms k ≤ 500) (hp4 : d ≤ n ∧ w = (n : Int) - d) (hp5 : -100000 + 500 * (d : Int) ≤ rest ∧ rest ≤ 100000 - 500 * (d : Int)) : MR l T yX1_placings cX1_placings 4 (some .int) ({ frames := 3 * d + 6, cells := 0, slots := 0, locals := 60 * d + 200 }) [.ref xo, .int (iN w), .int (iN rest)] ((xo, .inr (0, [.ref al, .ref bk, .ref pk, .int (bI wr), .int (iN co), .int (iN hv), .int (iN lt), .ref nd])) :: ((al, .inr (4, [.int mcn, .ref da, .int (iN ((n : Nat) : Int))])) :: ((da, .inl (T.2.1 5, cap, .inr (.inr (.inr (.inr el))))) :: ((PW n wa ms es) ++ [])))) (fun v_ => ∃ (r : Int), v_ = some (.int (iN r)) ∧ r = ((plF ms n d rest : Nat) : Int)) := by
  induction d using Nat.strongRecOn generalizing w rest with
  | _ d ih =>
  refine w_X1_placings l hlt T xo al bk pk nd wr co hv lt da mcn cap el wa n ms es w rest d (fun w rest j hj h1 h2 => ih j hj w rest h1 h2) _ ?_
  have hw : 0 < d → w.toNat = n - (Nat.pred d + 1) := by have := Nat.pred_eq_sub_one (n := d); omega
  have hpd : 0 < d → plF ms n d rest = plF ms n (Nat.pred d) (rest - ms (n - (Nat.pred d + 1))) + plF ms n (Nat.pred d) rest + plF ms n (Nat.pred d) (rest + ms (n - (Nat.pred d + 1))) := by
    intro h
    obtain ⟨q, rfl⟩ : ∃ q, d = q + 1 := ⟨d - 1, by omega⟩
    rfl
  have hp : Nat.pred d = d - 1 := rfl
  have hz : d = 0 → plF ms n d rest = if rest = 0 then 1 else 0 := by intro h; subst h; rfl
  refine ⟨by omega, by omega, fun h2 => ?_, fun h2 => ⟨by omega, fun h3 => ?_, fun h3 => ?_⟩⟩
  · have hd : 0 < d := by omega
    have hm := hp3 w.toNat (by omega)
    have e := hpd hd
    rw [← hw hd] at e
    rw [e]
    exact ⟨by omega, by omega, by omega, hp1.2, hp2 _ (by omega), by omega, by omega, by omega, by omega, by omega, by omega, by omega, by omega, by omega, by omega, by omega, by omega⟩
  · rw [hz (by omega), if_neg h3]; rfl
  · rw [hz (by omega), if_pos h3]; rfl
