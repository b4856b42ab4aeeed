def hbF (H l r : Nat) (o : Int) : Nat := if o = 1 then H &&& l else if o = 0 then H ^^^ (H &&& (l ||| r)) else H &&& r
def lbF (L l r : Nat) (o : Int) : Nat := if o = 1 then L &&& r else if o = 0 then L ^^^ (L &&& (l ||| r)) else L &&& l

set_option maxRecDepth 100000 in
set_option maxHeartbeats 4000000 in
theorem w_X1_heavyBehind (l : Launch) (hlt : l.stackTraces = false) (T : GT) (xo : Nat) (al : Nat) (bk : Nat) (pk : Nat) (nd : Nat) (wr : Bool) (co : Int) (hv : Int) (lt : Int) (left : Int) (right : Int) (o : Int)  (post : Int → Prop) (v0_ : (-2147483648 ≤ o ∧ o < 2147483648) ∧ ((¬ o = 1 → ((-2147483648 ≤ o ∧ o < 2147483648) ∧ ((¬ o = 0 → ((0 ≤ hv ∧ hv < 2147483648) ∧ ((0 ≤ right ∧ right < 2147483648) ∧ (post ((hv.toNat &&& right.toNat : Nat) : Int))))) ∧ (o = 0 → ((0 ≤ left ∧ left < 2147483648) ∧ ((0 ≤ right ∧ right < 2147483648) ∧ ((0 ≤ hv ∧ hv < 2147483648) ∧ ((0 ≤ ((left.toNat ||| right.toNat : Nat) : Int) ∧ ((left.toNat ||| right.toNat : Nat) : Int) < 2147483648) ∧ (post ((hv.toNat ^^^ (hv.toNat &&& ((left.toNat ||| right.toNat : Nat) : Int).toNat) : Nat) : Int)))))))))) ∧ (o = 1 → ((0 ≤ hv ∧ hv < 2147483648) ∧ ((0 ≤ left ∧ left < 2147483648) ∧ (post ((hv.toNat &&& left.toNat : Nat) : Int)))))))  : MR l T yX1_heavyBehind cX1_heavyBehind 4 (some .int) ({ frames := 0, cells := 0, slots := 0, locals := 0 }) [.ref xo, .int (iN left), .int (iN right), .int (iN o)] [(xo, .inr (0, [.ref al, .ref bk, .ref pk, .int (bI wr), .int (iN co), .int (iN hv), .int (iN lt), .ref nd]))] (fun v_ => ∃ (r : Int), v_ = some (.int (iN r)) ∧ post r) := by
  refine MR.start hlt (by decide) (lv0 := [some (.ref xo), some (.int (iN left)), some (.int (iN right)), some (.int (iN o))]) rfl (Nat.le_of_ble_eq_true rfl) rfl ?_
  intro p e R s m args below meth c cx hr hST
  have vc := v0_
  refine g_aload_n (q := 1) cx dX1_heavyBehind_0 rfl rfl ?_
  refine g_get (q := 4) cx k_cX1 0 rfl 5 (by decide) q155 (Or.inl rfl) rfl dX1_heavyBehind_1 rfl ?_
  refine g_iload_n (q := 5) cx dX1_heavyBehind_4 rfl rfl ?_
  refine g_iconst (q := 6) (v := iN 1) cx dX1_heavyBehind_5 rfl rfl ?_
  refine g_icmp_neZ (q := 9) (tg := 13) cx vc.1 (by decide) dX1_heavyBehind_6 (by decide) rfl (fun h_1 => ?_) (fun h_1 => ?_)
  · have vc := vc.2.1 h_1
    refine g_iload_n (q := 14) cx dX1_heavyBehind_13 rfl rfl ?_
    refine g_if_neZ (q := 17) (tg := 25) cx vc.1 dX1_heavyBehind_14 (by decide) rfl (fun h_2 => ?_) (fun h_2 => ?_)
    · have vc := vc.2.1 h_2
      refine g_iload_n (q := 26) cx dX1_heavyBehind_25 rfl rfl ?_
      refine g_iandZ (q := 27) cx vc.1 vc.2.1 dX1_heavyBehind_26 rfl ?_
      have vc := vc.2
      have vc := vc.2
      exact g_iretR cx hr rfl ⟨((hv.toNat &&& right.toNat : Nat) : Int), rfl, vc⟩ dX1_heavyBehind_27
    · have vc := vc.2.2 h_2
      refine g_iload_n (q := 18) cx dX1_heavyBehind_17 rfl rfl ?_
      refine g_iload_n (q := 19) cx dX1_heavyBehind_18 rfl rfl ?_
      refine g_iorZ (q := 20) cx vc.1 vc.2.1 dX1_heavyBehind_19 rfl ?_
      have vc := vc.2
      have vc := vc.2
      refine g_iconst (q := 21) (v := iN (-1)) cx dX1_heavyBehind_20 rfl rfl ?_
      refine g_inotZ (q := 22) cx dX1_heavyBehind_21 rfl ?_
      refine g_goto (q := 26) cx dX1_heavyBehind_22 (by decide) ?_
      refine g_iandN (q := 27) cx vc.1 vc.2.1 dX1_heavyBehind_26 rfl ?_
      have vc := vc.2
      have vc := vc.2
      exact g_iretR cx hr rfl ⟨((hv.toNat ^^^ (hv.toNat &&& ((left.toNat ||| right.toNat : Nat) : Int).toNat) : Nat) : Int), rfl, vc⟩ dX1_heavyBehind_27
  · have vc := vc.2.2 h_1
    refine g_iload_n (q := 10) cx dX1_heavyBehind_9 rfl rfl ?_
    refine g_goto (q := 26) cx dX1_heavyBehind_10 (by decide) ?_
    refine g_iandZ (q := 27) cx vc.1 vc.2.1 dX1_heavyBehind_26 rfl ?_
    have vc := vc.2
    have vc := vc.2
    exact g_iretR cx hr rfl ⟨((hv.toNat &&& left.toNat : Nat) : Int), rfl, vc⟩ dX1_heavyBehind_27

theorem k_X1_heavyBehind (l : Launch) (hlt : l.stackTraces = false) (T : GT) (xo : Nat) (al : Nat) (bk : Nat) (pk : Nat) (nd : Nat) (wr : Bool) (co : Int) (hv : Int) (lt : Int) (left : Int) (right : Int) (o : Int) (hp0 : 0 ≤ left ∧ left < 512) (hp1 : 0 ≤ right ∧ right < 512) (hp2 : -2147483648 ≤ o ∧ o < 2147483648) (hp3 : 0 ≤ hv ∧ hv < 512) : MR l T yX1_heavyBehind cX1_heavyBehind 4 (some .int) ({ frames := 0, cells := 0, slots := 0, locals := 0 }) [.ref xo, .int (iN left), .int (iN right), .int (iN o)] [(xo, .inr (0, [.ref al, .ref bk, .ref pk, .int (bI wr), .int (iN co), .int (iN hv), .int (iN lt), .ref nd]))] (fun v_ => ∃ (r : Int), v_ = some (.int (iN r)) ∧ r = ((hbF hv.toNat left.toNat right.toNat o : Nat) : Int)) := by
  have hor : left.toNat ||| right.toNat < 512 := Nat.or_lt_two_pow (n := 9) (by omega) (by omega)
  refine w_X1_heavyBehind l hlt T xo al bk pk nd wr co hv lt left right o _ ?_
  unfold hbF
  generalize left.toNat ||| right.toNat = q at *
  rw [Int.toNat_natCast]
  refine ⟨hp2, fun h => ⟨hp2, fun h2 => ⟨by omega, by omega, ?_⟩, fun h2 => ⟨by omega, by omega, by omega, by omega, ?_⟩⟩, fun h => ⟨by omega, by omega, ?_⟩⟩
  · rw [if_neg h, if_neg h2]
  · rw [if_neg h, if_pos h2]
  · rw [if_pos h]

set_option maxRecDepth 100000 in
set_option maxHeartbeats 4000000 in
theorem w_X1_lightBehind (l : Launch) (hlt : l.stackTraces = false) (T : GT) (xo : Nat) (al : Nat) (bk : Nat) (pk : Nat) (nd : Nat) (wr : Bool) (co : Int) (hv : Int) (lt : Int) (left : Int) (right : Int) (o : Int)  (post : Int → Prop) (v0_ : (-2147483648 ≤ o ∧ o < 2147483648) ∧ ((¬ o = 1 → ((-2147483648 ≤ o ∧ o < 2147483648) ∧ ((¬ o = 0 → ((0 ≤ lt ∧ lt < 2147483648) ∧ ((0 ≤ left ∧ left < 2147483648) ∧ (post ((lt.toNat &&& left.toNat : Nat) : Int))))) ∧ (o = 0 → ((0 ≤ left ∧ left < 2147483648) ∧ ((0 ≤ right ∧ right < 2147483648) ∧ ((0 ≤ lt ∧ lt < 2147483648) ∧ ((0 ≤ ((left.toNat ||| right.toNat : Nat) : Int) ∧ ((left.toNat ||| right.toNat : Nat) : Int) < 2147483648) ∧ (post ((lt.toNat ^^^ (lt.toNat &&& ((left.toNat ||| right.toNat : Nat) : Int).toNat) : Nat) : Int)))))))))) ∧ (o = 1 → ((0 ≤ lt ∧ lt < 2147483648) ∧ ((0 ≤ right ∧ right < 2147483648) ∧ (post ((lt.toNat &&& right.toNat : Nat) : Int)))))))  : MR l T yX1_lightBehind cX1_lightBehind 4 (some .int) ({ frames := 0, cells := 0, slots := 0, locals := 0 }) [.ref xo, .int (iN left), .int (iN right), .int (iN o)] [(xo, .inr (0, [.ref al, .ref bk, .ref pk, .int (bI wr), .int (iN co), .int (iN hv), .int (iN lt), .ref nd]))] (fun v_ => ∃ (r : Int), v_ = some (.int (iN r)) ∧ post r) := by
  refine MR.start hlt (by decide) (lv0 := [some (.ref xo), some (.int (iN left)), some (.int (iN right)), some (.int (iN o))]) rfl (Nat.le_of_ble_eq_true rfl) rfl ?_
  intro p e R s m args below meth c cx hr hST
  have vc := v0_
  refine g_aload_n (q := 1) cx dX1_lightBehind_0 rfl rfl ?_
  refine g_get (q := 4) cx k_cX1 0 rfl 6 (by decide) q156 (Or.inl rfl) rfl dX1_lightBehind_1 rfl ?_
  refine g_iload_n (q := 5) cx dX1_lightBehind_4 rfl rfl ?_
  refine g_iconst (q := 6) (v := iN 1) cx dX1_lightBehind_5 rfl rfl ?_
  refine g_icmp_neZ (q := 9) (tg := 13) cx vc.1 (by decide) dX1_lightBehind_6 (by decide) rfl (fun h_1 => ?_) (fun h_1 => ?_)
  · have vc := vc.2.1 h_1
    refine g_iload_n (q := 14) cx dX1_lightBehind_13 rfl rfl ?_
    refine g_if_neZ (q := 17) (tg := 25) cx vc.1 dX1_lightBehind_14 (by decide) rfl (fun h_2 => ?_) (fun h_2 => ?_)
    · have vc := vc.2.1 h_2
      refine g_iload_n (q := 26) cx dX1_lightBehind_25 rfl rfl ?_
      refine g_iandZ (q := 27) cx vc.1 vc.2.1 dX1_lightBehind_26 rfl ?_
      have vc := vc.2
      have vc := vc.2
      exact g_iretR cx hr rfl ⟨((lt.toNat &&& left.toNat : Nat) : Int), rfl, vc⟩ dX1_lightBehind_27
    · have vc := vc.2.2 h_2
      refine g_iload_n (q := 18) cx dX1_lightBehind_17 rfl rfl ?_
      refine g_iload_n (q := 19) cx dX1_lightBehind_18 rfl rfl ?_
      refine g_iorZ (q := 20) cx vc.1 vc.2.1 dX1_lightBehind_19 rfl ?_
      have vc := vc.2
      have vc := vc.2
      refine g_iconst (q := 21) (v := iN (-1)) cx dX1_lightBehind_20 rfl rfl ?_
      refine g_inotZ (q := 22) cx dX1_lightBehind_21 rfl ?_
      refine g_goto (q := 26) cx dX1_lightBehind_22 (by decide) ?_
      refine g_iandN (q := 27) cx vc.1 vc.2.1 dX1_lightBehind_26 rfl ?_
      have vc := vc.2
      have vc := vc.2
      exact g_iretR cx hr rfl ⟨((lt.toNat ^^^ (lt.toNat &&& ((left.toNat ||| right.toNat : Nat) : Int).toNat) : Nat) : Int), rfl, vc⟩ dX1_lightBehind_27
  · have vc := vc.2.2 h_1
    refine g_iload_n (q := 10) cx dX1_lightBehind_9 rfl rfl ?_
    refine g_goto (q := 26) cx dX1_lightBehind_10 (by decide) ?_
    refine g_iandZ (q := 27) cx vc.1 vc.2.1 dX1_lightBehind_26 rfl ?_
    have vc := vc.2
    have vc := vc.2
    exact g_iretR cx hr rfl ⟨((lt.toNat &&& right.toNat : Nat) : Int), rfl, vc⟩ dX1_lightBehind_27

theorem k_X1_lightBehind (l : Launch) (hlt : l.stackTraces = false) (T : GT) (xo : Nat) (al : Nat) (bk : Nat) (pk : Nat) (nd : Nat) (wr : Bool) (co : Int) (hv : Int) (lt : Int) (left : Int) (right : Int) (o : Int) (hp0 : 0 ≤ left ∧ left < 512) (hp1 : 0 ≤ right ∧ right < 512) (hp2 : -2147483648 ≤ o ∧ o < 2147483648) (hp3 : 0 ≤ lt ∧ lt < 512) : MR l T yX1_lightBehind cX1_lightBehind 4 (some .int) ({ frames := 0, cells := 0, slots := 0, locals := 0 }) [.ref xo, .int (iN left), .int (iN right), .int (iN o)] [(xo, .inr (0, [.ref al, .ref bk, .ref pk, .int (bI wr), .int (iN co), .int (iN hv), .int (iN lt), .ref nd]))] (fun v_ => ∃ (r : Int), v_ = some (.int (iN r)) ∧ r = ((lbF lt.toNat left.toNat right.toNat o : Nat) : Int)) := by
  have hor : left.toNat ||| right.toNat < 512 := Nat.or_lt_two_pow (n := 9) (by omega) (by omega)
  refine w_X1_lightBehind l hlt T xo al bk pk nd wr co hv lt left right o _ ?_
  unfold lbF
  generalize left.toNat ||| right.toNat = q at *
  rw [Int.toNat_natCast]
  refine ⟨hp2, fun h => ⟨hp2, fun h2 => ⟨by omega, by omega, ?_⟩, fun h2 => ⟨by omega, by omega, by omega, by omega, ?_⟩⟩, fun h => ⟨by omega, by omega, ?_⟩⟩
  · rw [if_neg h, if_neg h2]
  · rw [if_neg h, if_pos h2]
  · rw [if_pos h]

set_option maxRecDepth 100000 in
set_option maxHeartbeats 4000000 in
theorem w_X1_possible (l : Launch) (hlt : l.stackTraces = false) (T : GT) (xo : Nat) (al : Nat) (bk : Nat) (pk : Nat) (nd : Nat) (wr : Bool) (co : Int) (hv : Int) (lt : Int)  (post : Int → Prop) (v0_ : (0 ≤ hv ∧ hv < 512) ∧ ((0 ≤ lt ∧ lt < 512) ∧ (post (((bits9 hv.toNat : Nat) : Int) + ((bits9 lt.toNat : Nat) : Int)))))  : MR l T yX1_possible cX1_possible 1 (some .int) ({ frames := 1, cells := 0, slots := 0, locals := 20 }) [.ref xo] [(xo, .inr (0, [.ref al, .ref bk, .ref pk, .int (bI wr), .int (iN co), .int (iN hv), .int (iN lt), .ref nd]))] (fun v_ => ∃ (r : Int), v_ = some (.int (iN r)) ∧ post r) := by
  refine MR.start hlt (by decide) (lv0 := [some (.ref xo)]) rfl (Nat.le_of_ble_eq_true rfl) rfl ?_
  intro p e R s m args below meth c cx hr hST
  have vc := v0_
  refine g_aload_n (q := 1) cx dX1_possible_0 rfl rfl ?_
  refine g_get (q := 4) cx k_cX1 0 rfl 5 (by decide) q155 (Or.inl rfl) rfl dX1_possible_1 rfl ?_
  refine g_cSr (q := 7) (As := [.int (iN hv)]) (wr := [(xo, .inr (0, [.ref al, .ref bk, .ref pk, .int (bI wr), .int (iN co), .int (iN hv), .int (iN lt), .ref nd]))]) (st := []) cx hST (k_J11_bitCount l hlt T hv (vc.1)) q395 s_J11_bitCount rfl g_perm0 (g_rmB rfl) (Nat.le_of_ble_eq_true rfl) dX1_possible_4 rfl (fun v_ hv_ => ?_)
  have vc := vc.2
  obtain ⟨r_1, rfl, e_2⟩ := hv_
  subst e_2
  refine g_st (st2 := [.int (iN ((bits9 hv.toNat : Nat) : Int))]) rfl ?_
  refine g_aload_n (q := 8) cx dX1_possible_7 rfl rfl ?_
  refine g_get (q := 11) cx k_cX1 0 rfl 6 (by decide) q156 (Or.inl rfl) rfl dX1_possible_8 rfl ?_
  refine g_cSr (q := 14) (As := [.int (iN lt)]) (wr := [(xo, .inr (0, [.ref al, .ref bk, .ref pk, .int (bI wr), .int (iN co), .int (iN hv), .int (iN lt), .ref nd]))]) (st := [.int (iN ((bits9 hv.toNat : Nat) : Int))]) cx hST (k_J11_bitCount l hlt T lt (vc.1)) q395 s_J11_bitCount rfl g_perm0 (g_rmB rfl) (Nat.le_of_ble_eq_true rfl) dX1_possible_11 rfl (fun v_ hv_ => ?_)
  have vc := vc.2
  obtain ⟨r_3, rfl, e_4⟩ := hv_
  subst e_4
  refine g_st (st2 := [.int (iN ((bits9 lt.toNat : Nat) : Int)), .int (iN ((bits9 hv.toNat : Nat) : Int))]) rfl ?_
  refine g_iaddZ (q := 15) cx dX1_possible_14 rfl ?_
  exact g_iretR cx hr rfl ⟨(((bits9 hv.toNat : Nat) : Int) + ((bits9 lt.toNat : Nat) : Int)), rfl, vc⟩ dX1_possible_15

theorem k_X1_possible (l : Launch) (hlt : l.stackTraces = false) (T : GT) (xo : Nat) (al : Nat) (bk : Nat) (pk : Nat) (nd : Nat) (wr : Bool) (co : Int) (hv : Int) (lt : Int) (hp0 : 0 ≤ hv ∧ hv < 512) (hp1 : 0 ≤ lt ∧ lt < 512) : MR l T yX1_possible cX1_possible 1 (some .int) ({ frames := 1, cells := 0, slots := 0, locals := 20 }) [.ref xo] [(xo, .inr (0, [.ref al, .ref bk, .ref pk, .int (bI wr), .int (iN co), .int (iN hv), .int (iN lt), .ref nd]))] (fun v_ => ∃ (r : Int), v_ = some (.int (iN r)) ∧ r = (((bits9 hv.toNat : Nat) : Int) + ((bits9 lt.toNat : Nat) : Int))) := by
  exact w_X1_possible l hlt T xo al bk pk nd wr co hv lt _ ⟨hp0, hp1, rfl⟩

set_option maxRecDepth 100000 in
set_option maxHeartbeats 4000000 in
theorem w_X1_coins (l : Launch) (hlt : l.stackTraces = false) (T : GT) (xo : Nat) (al : Nat) (bk : Nat) (pk : Nat) (nd : Nat) (wr : Bool) (co : Int) (hv : Int) (lt : Int)  (post : Int → Prop) (v0_ : post co)  : MR l T yX1_coins cX1_coins 1 (some .int) ({ frames := 0, cells := 0, slots := 0, locals := 0 }) [.ref xo] [(xo, .inr (0, [.ref al, .ref bk, .ref pk, .int (bI wr), .int (iN co), .int (iN hv), .int (iN lt), .ref nd]))] (fun v_ => ∃ (r : Int), v_ = some (.int (iN r)) ∧ post r) := by
  refine MR.start hlt (by decide) (lv0 := [some (.ref xo)]) rfl (Nat.le_of_ble_eq_true rfl) rfl ?_
  intro p e R s m args below meth c cx hr hST
  have vc := v0_
  refine g_aload_n (q := 1) cx dX1_coins_0 rfl rfl ?_
  refine g_get (q := 4) cx k_cX1 0 rfl 4 (by decide) q154 (Or.inl rfl) rfl dX1_coins_1 rfl ?_
  exact g_iretR cx hr rfl ⟨co, rfl, vc⟩ dX1_coins_4

theorem k_X1_coins (l : Launch) (hlt : l.stackTraces = false) (T : GT) (xo : Nat) (al : Nat) (bk : Nat) (pk : Nat) (nd : Nat) (wr : Bool) (co : Int) (hv : Int) (lt : Int)  : MR l T yX1_coins cX1_coins 1 (some .int) ({ frames := 0, cells := 0, slots := 0, locals := 0 }) [.ref xo] [(xo, .inr (0, [.ref al, .ref bk, .ref pk, .int (bI wr), .int (iN co), .int (iN hv), .int (iN lt), .ref nd]))] (fun v_ => ∃ (r : Int), v_ = some (.int (iN r)) ∧ r = co) := by
  exact w_X1_coins l hlt T xo al bk pk nd wr co hv lt _ rfl

set_option maxRecDepth 100000 in
set_option maxHeartbeats 4000000 in
theorem w_X1_weights (l : Launch) (hlt : l.stackTraces = false) (T : GT) (xo : Nat) (al : Nat) (bk : Nat) (pk : Nat) (nd : Nat) (wr : Bool) (co : Int) (hv : Int) (lt : Int) (da : Nat) (mcn : Int32) (size : Int) (cap : Nat) (el : Nat → Option Nat)  (post : Int → Prop) (v0_ : post size)  : MR l T yX1_weights cX1_weights 1 (some .int) ({ frames := 1, cells := 0, slots := 0, locals := 20 }) [.ref xo] [(xo, .inr (0, [.ref al, .ref bk, .ref pk, .int (bI wr), .int (iN co), .int (iN hv), .int (iN lt), .ref nd])), (al, .inr (4, [.int mcn, .ref da, .int (iN size)])), (da, .inl (T.2.1 5, cap, .inr (.inr (.inr (.inr el)))))] (fun v_ => ∃ (r : Int), v_ = some (.int (iN r)) ∧ post r) := by
  refine MR.start hlt (by decide) (lv0 := [some (.ref xo)]) rfl (Nat.le_of_ble_eq_true rfl) rfl ?_
  intro p e R s m args below meth c cx hr hST
  have vc := v0_
  refine g_aload_n (q := 1) cx dX1_weights_0 rfl rfl ?_
  refine g_get (q := 4) cx k_cX1 0 rfl 0 (by decide) q150 (Or.inl rfl) rfl dX1_weights_1 rfl ?_
  refine g_cFr (q := 9) (b := al) (As := []) (wr := [(xo, .inr (0, [.ref al, .ref bk, .ref pk, .int (bI wr), .int (iN co), .int (iN hv), .int (iN lt), .ref nd]))]) (st := []) cx hST (k_J2_size l hlt T al da mcn size cap el) q181 f_J2_size rfl 1 rfl rfl (g_perm [0, 1, 2] rfl rfl) (g_rmB rfl) (Nat.le_of_ble_eq_true rfl) dX1_weights_4 rfl (fun v_ hv_ => ?_)
  obtain ⟨r_1, rfl, e_2⟩ := hv_
  replace e_2 := e_2.symm
  subst e_2
  refine g_st (st2 := [.int (iN size)]) rfl ?_
  exact g_iretR cx hr rfl ⟨size, rfl, vc⟩ dX1_weights_9

theorem k_X1_weights (l : Launch) (hlt : l.stackTraces = false) (T : GT) (xo : Nat) (al : Nat) (bk : Nat) (pk : Nat) (nd : Nat) (wr : Bool) (co : Int) (hv : Int) (lt : Int) (da : Nat) (mcn : Int32) (size : Int) (cap : Nat) (el : Nat → Option Nat)  : MR l T yX1_weights cX1_weights 1 (some .int) ({ frames := 1, cells := 0, slots := 0, locals := 20 }) [.ref xo] [(xo, .inr (0, [.ref al, .ref bk, .ref pk, .int (bI wr), .int (iN co), .int (iN hv), .int (iN lt), .ref nd])), (al, .inr (4, [.int mcn, .ref da, .int (iN size)])), (da, .inl (T.2.1 5, cap, .inr (.inr (.inr (.inr el)))))] (fun v_ => ∃ (r : Int), v_ = some (.int (iN r)) ∧ r = size) := by
  exact w_X1_weights l hlt T xo al bk pk nd wr co hv lt da mcn size cap el _ rfl
