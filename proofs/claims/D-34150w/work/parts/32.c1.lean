set_option maxRecDepth 100000 in
set_option maxHeartbeats 4000000 in
theorem w_X4_mass (l : Launch) (hlt : l.stackTraces = false) (T : GT) (wt : Nat) (ms : Int) (es : Int)  (post : Int → Prop) (v0_ : post ms)  : MR l T yX4_mass cX4_mass 1 (some .int) ({ frames := 0, cells := 0, slots := 0, locals := 0 }) [.ref wt] [(wt, .inr (3, [.int (iN ms), .int (iN es)]))] (fun v_ => ∃ (r : Int), v_ = some (.int (iN r)) ∧ post r) := by
  refine MR.start hlt (by decide) (lv0 := [some (.ref wt)]) rfl (Nat.le_of_ble_eq_true rfl) rfl ?_
  intro p e R s m args below meth c cx hr hST
  have vc := v0_
  refine g_aload_n (q := 1) cx dX4_mass_0 rfl rfl ?_
  refine g_get (q := 4) cx k_cX4 0 rfl 0 (by decide) q721 (Or.inl rfl) rfl dX4_mass_1 rfl ?_
  exact g_iretR cx hr rfl ⟨ms, rfl, vc⟩ dX4_mass_4

theorem k_X4_mass (l : Launch) (hlt : l.stackTraces = false) (T : GT) (wt : Nat) (ms : Int) (es : Int)  : MR l T yX4_mass cX4_mass 1 (some .int) ({ frames := 0, cells := 0, slots := 0, locals := 0 }) [.ref wt] [(wt, .inr (3, [.int (iN ms), .int (iN es)]))] (fun v_ => ∃ (r : Int), v_ = some (.int (iN r)) ∧ r = ms) := by
  exact w_X4_mass l hlt T wt ms es _ rfl

set_option maxRecDepth 100000 in
set_option maxHeartbeats 4000000 in
theorem w_X4_error (l : Launch) (hlt : l.stackTraces = false) (T : GT) (wt : Nat) (ms : Int) (es : Int)  (post : Int → Prop) (v0_ : post es)  : MR l T yX4_error cX4_error 1 (some .int) ({ frames := 0, cells := 0, slots := 0, locals := 0 }) [.ref wt] [(wt, .inr (3, [.int (iN ms), .int (iN es)]))] (fun v_ => ∃ (r : Int), v_ = some (.int (iN r)) ∧ post r) := by
  refine MR.start hlt (by decide) (lv0 := [some (.ref wt)]) rfl (Nat.le_of_ble_eq_true rfl) rfl ?_
  intro p e R s m args below meth c cx hr hST
  have vc := v0_
  refine g_aload_n (q := 1) cx dX4_error_0 rfl rfl ?_
  refine g_get (q := 4) cx k_cX4 0 rfl 1 (by decide) q722 (Or.inl rfl) rfl dX4_error_1 rfl ?_
  exact g_iretR cx hr rfl ⟨es, rfl, vc⟩ dX4_error_4

theorem k_X4_error (l : Launch) (hlt : l.stackTraces = false) (T : GT) (wt : Nat) (ms : Int) (es : Int)  : MR l T yX4_error cX4_error 1 (some .int) ({ frames := 0, cells := 0, slots := 0, locals := 0 }) [.ref wt] [(wt, .inr (3, [.int (iN ms), .int (iN es)]))] (fun v_ => ∃ (r : Int), v_ = some (.int (iN r)) ∧ r = es) := by
  exact w_X4_error l hlt T wt ms es _ rfl

set_option maxRecDepth 100000 in
set_option maxHeartbeats 4000000 in
theorem w_J0_init (l : Launch) (hlt : l.stackTraces = false) (T : GT) (al : Nat) (mcn : Int32) (size : Int)  (post : Prop) (v0_ : post)  : MW l T yJ0_init cJ0_init 1 none ({ frames := 1, cells := 0, slots := 0, locals := 12 }) [.ref al] [(al, .inr (4, [.int mcn, .null, .int (iN size)]))] (fun v_ wn_ => v_ = none ∧ wn_ = [(al, .inr (4, [.int mcn, .null, .int (iN size)]))] ∧ post) 0 0 := by
  refine MW.start hlt (by decide) (lv0 := [some (.ref al)]) rfl (Nat.le_of_ble_eq_true rfl) rfl ?_
  intro p e R s m args below meth c A cx hr hnm hST hrw
  have vc := v0_
  refine g_aload_n (q := 1) cx dJ0_init_0 rfl rfl ?_
  refine g_objInit (q := 4) cx q100 q87 q88 (by decide) (by decide) dJ0_init_1 rfl ?_
  exact g_vretW cx hr ⟨rfl, rfl, vc⟩ (by first | exact Nat.le_of_ble_eq_true rfl | omega) (by first | exact Nat.le_of_ble_eq_true rfl | omega) dJ0_init_4

theorem k_J0_init (l : Launch) (hlt : l.stackTraces = false) (T : GT) (al : Nat) (mcn : Int32) (size : Int)  : MW l T yJ0_init cJ0_init 1 none ({ frames := 1, cells := 0, slots := 0, locals := 12 }) [.ref al] [(al, .inr (4, [.int mcn, .null, .int (iN size)]))] (fun v_ wn_ => v_ = none ∧ wn_ = [(al, .inr (4, [.int mcn, .null, .int (iN size)]))] ∧ True) 0 0 := by
  exact w_J0_init l hlt T al mcn size _ trivial

set_option maxRecDepth 100000 in
set_option maxHeartbeats 4000000 in
theorem w_J2_size (l : Launch) (hlt : l.stackTraces = false) (T : GT) (al : Nat) (da : Nat) (mcn : Int32) (size : Int) (cap : Nat) (el : Nat → Option Nat)  (post : Int → Prop) (v0_ : post size)  : MR l T yJ2_size cJ2_size 1 (some .int) ({ frames := 0, cells := 0, slots := 0, locals := 0 }) [.ref al] [(al, .inr (4, [.int mcn, .ref da, .int (iN size)])), (da, .inl (T.2.1 5, cap, .inr (.inr (.inr (.inr el)))))] (fun v_ => ∃ (r : Int), v_ = some (.int (iN r)) ∧ post r) := by
  refine MR.start hlt (by decide) (lv0 := [some (.ref al)]) rfl (Nat.le_of_ble_eq_true rfl) rfl ?_
  intro p e R s m args below meth c cx hr hST
  have vc := v0_
  refine g_aload_n (q := 1) cx dJ2_size_0 rfl rfl ?_
  refine g_get (q := 4) cx k_cJ2 0 rfl 2 (by decide) q106 (Or.inl rfl) rfl dJ2_size_1 rfl ?_
  exact g_iretR cx hr rfl ⟨size, rfl, vc⟩ dJ2_size_4

theorem k_J2_size (l : Launch) (hlt : l.stackTraces = false) (T : GT) (al : Nat) (da : Nat) (mcn : Int32) (size : Int) (cap : Nat) (el : Nat → Option Nat)  : MR l T yJ2_size cJ2_size 1 (some .int) ({ frames := 0, cells := 0, slots := 0, locals := 0 }) [.ref al] [(al, .inr (4, [.int mcn, .ref da, .int (iN size)])), (da, .inl (T.2.1 5, cap, .inr (.inr (.inr (.inr el)))))] (fun v_ => ∃ (r : Int), v_ = some (.int (iN r)) ∧ r = size) := by
  exact w_J2_size l hlt T al da mcn size cap el _ rfl

set_option maxRecDepth 100000 in
set_option maxHeartbeats 4000000 in
theorem w_J2_elementData (l : Launch) (hlt : l.stackTraces = false) (T : GT) (al : Nat) (da : Nat) (mcn : Int32) (size : Int) (cap : Nat) (el : Nat → Option Nat) (i : Int) (y : Nat)  (post : Nat → Prop) (v0_ : (0 ≤ i ∧ i < cap) ∧ ((el i.toNat = some y) ∧ ((cap < 2147483648) ∧ (post y))))  : MR l T yJ2_elementData cJ2_elementData 2 (some (.object "java/lang/Object")) ({ frames := 0, cells := 0, slots := 0, locals := 0 }) [.ref al, .int (iN i)] [(al, .inr (4, [.int mcn, .ref da, .int (iN size)])), (da, .inl (T.2.1 5, cap, .inr (.inr (.inr (.inr el)))))] (fun v_ => ∃ (v : Nat), v_ = some (.ref v) ∧ post v) := by
  refine MR.start hlt (by decide) (lv0 := [some (.ref al), some (.int (iN i))]) rfl (Nat.le_of_ble_eq_true rfl) rfl ?_
  intro p e R s m args below meth c cx hr hST
  have vc := v0_
  refine g_aload_n (q := 1) cx dJ2_elementData_0 rfl rfl ?_
  refine g_get (q := 4) cx k_cJ2 0 rfl 1 (by decide) q103 (Or.inl rfl) rfl dJ2_elementData_1 rfl ?_
  refine g_iload_n (q := 5) cx dJ2_elementData_4 rfl rfl ?_
  refine g_aaldM (q := 6) (y := y) cx 5 vc.2.2.1 (List.mem_of_getElem? (i := 1) rfl) rfl (Or.inl ⟨_, rfl⟩) vc.1 vc.2.1 dJ2_elementData_5 rfl ?_
  have vc := vc.2
  have vc := vc.2
  have vc := vc.2
  exact g_aretR cx hr (Or.inl ⟨_, rfl⟩) ⟨y, rfl, vc⟩ dJ2_elementData_6

theorem k_J2_elementData (l : Launch) (hlt : l.stackTraces = false) (T : GT) (al : Nat) (da : Nat) (mcn : Int32) (size : Int) (cap : Nat) (el : Nat → Option Nat) (i : Int) (y : Nat) (hp0 : 0 ≤ i ∧ i < cap) (hp1 : cap < 2147483648) (hp2 : el i.toNat = some y) : MR l T yJ2_elementData cJ2_elementData 2 (some (.object "java/lang/Object")) ({ frames := 0, cells := 0, slots := 0, locals := 0 }) [.ref al, .int (iN i)] [(al, .inr (4, [.int mcn, .ref da, .int (iN size)])), (da, .inl (T.2.1 5, cap, .inr (.inr (.inr (.inr el)))))] (fun v_ => ∃ (v : Nat), v_ = some (.ref v) ∧ v = y) := by
  exact w_J2_elementData l hlt T al da mcn size cap el i y _ ⟨hp0, hp2, hp1, rfl⟩

set_option maxRecDepth 100000 in
set_option maxHeartbeats 4000000 in
theorem w_J1_init (l : Launch) (hlt : l.stackTraces = false) (T : GT) (al : Nat) (mcn : Int32) (size : Int)  (post : Prop) (v0_ : post)  : MW l T yJ1_init cJ1_init 1 none ({ frames := 2, cells := 0, slots := 0, locals := 32 }) [.ref al] [(al, .inr (4, [.int mcn, .null, .int (iN size)]))] (fun v_ wn_ => v_ = none ∧ wn_ = [(al, .inr (4, [.int (iN 0), .null, .int (iN size)]))] ∧ post) 0 0 := by
  refine MW.start hlt (by decide) (lv0 := [some (.ref al)]) rfl (Nat.le_of_ble_eq_true rfl) rfl ?_
  intro p e R s m args below meth c A cx hr hnm hST hrw
  have vc := v0_
  refine g_aload_n (q := 1) cx dJ1_init_0 rfl rfl ?_
  refine g_cIw (q := 4) (b := al) (As := []) (wr := []) (st := []) cx hST hrw (k_J0_init l hlt T al mcn size) q97 s_J0_init rfl g_perm1 (g_rmB rfl) (Nat.le_of_ble_eq_true rfl) dJ1_init_1 rfl (fun v_ wn_ hv_ => ?_)
  obtain ⟨rfl, rfl, e_1⟩ := hv_
  refine g_cs (cells2 := 0) (slots2 := 0) (ws2 := [(al, .inr (4, [.int mcn, .null, .int (iN size)]))]) rfl rfl rfl ?_
  refine g_st (st2 := []) rfl ?_
  refine g_aload_n (q := 5) cx dJ1_init_4 rfl rfl ?_
  refine g_iconst (q := 6) (v := iN 0) cx dJ1_init_5 rfl rfl ?_
  refine g_put (q := 9) (ws2 := [(al, .inr (4, [.int (iN 0), .null, .int (iN size)]))]) cx hrw k_cJ2 0 rfl 0 (by decide) q107 (Or.inl rfl) rfl rfl rfl (Nat.le_of_ble_eq_true rfl) rfl dJ1_init_6 rfl ?_
  exact g_vretW cx hr ⟨rfl, rfl, vc⟩ (by first | exact Nat.le_of_ble_eq_true rfl | omega) (by first | exact Nat.le_of_ble_eq_true rfl | omega) dJ1_init_9

theorem k_J1_init (l : Launch) (hlt : l.stackTraces = false) (T : GT) (al : Nat) (mcn : Int32) (size : Int)  : MW l T yJ1_init cJ1_init 1 none ({ frames := 2, cells := 0, slots := 0, locals := 32 }) [.ref al] [(al, .inr (4, [.int mcn, .null, .int (iN size)]))] (fun v_ wn_ => v_ = none ∧ wn_ = [(al, .inr (4, [.int (iN 0), .null, .int (iN size)]))] ∧ True) 0 0 := by
  exact w_J1_init l hlt T al mcn size _ trivial

set_option maxRecDepth 100000 in
set_option maxHeartbeats 4000000 in
theorem w_J2_init (l : Launch) (hlt : l.stackTraces = false) (T : GT) (al : Nat)  (post : Prop) (v0_ : post)  : MW l T yJ2_init cJ2_init 1 none ({ frames := 3, cells := 0, slots := 0, locals := 52 }) [.ref al] [(al, .inr (4, [.int (iN 0), .null, .int (iN 0)]))] (fun v_ wn_ => v_ = none ∧ wn_ = [(al, .inr (4, [.int (iN 0), .ref (T.2.2 0), .int (iN 0)]))] ∧ post) 0 0 := by
  refine MW.start hlt (by decide) (lv0 := [some (.ref al)]) rfl (Nat.le_of_ble_eq_true rfl) rfl ?_
  intro p e R s m args below meth c A cx hr hnm hST hrw
  have vc := v0_
  refine g_aload_n (q := 1) cx dJ2_init_0 rfl rfl ?_
  refine g_cIw (q := 4) (b := al) (As := []) (wr := []) (st := []) cx hST hrw (k_J1_init l hlt T al (iN 0) 0) q94 s_J1_init rfl g_perm1 (g_rmB rfl) (Nat.le_of_ble_eq_true rfl) dJ2_init_1 rfl (fun v_ wn_ hv_ => ?_)
  obtain ⟨rfl, rfl, e_1⟩ := hv_
  refine g_cs (cells2 := 0) (slots2 := 0) (ws2 := [(al, .inr (4, [.int (iN 0), .null, .int (iN 0)]))]) rfl rfl rfl ?_
  refine g_st (st2 := []) rfl ?_
  refine g_aload_n (q := 5) cx dJ2_init_4 rfl rfl ?_
  refine g_getsE (q := 8) cx hST q101 dJ2_init_5 rfl ?_
  refine g_put (q := 11) (ws2 := [(al, .inr (4, [.int (iN 0), .ref (T.2.2 0), .int (iN 0)]))]) cx hrw k_cJ2 0 rfl 1 (by decide) q103 (Or.inl rfl) rfl rfl rfl (Nat.le_of_ble_eq_true rfl) rfl dJ2_init_8 rfl ?_
  exact g_vretW cx hr ⟨rfl, rfl, vc⟩ (by first | exact Nat.le_of_ble_eq_true rfl | omega) (by first | exact Nat.le_of_ble_eq_true rfl | omega) dJ2_init_11

theorem k_J2_init (l : Launch) (hlt : l.stackTraces = false) (T : GT) (al : Nat)  : MW l T yJ2_init cJ2_init 1 none ({ frames := 3, cells := 0, slots := 0, locals := 52 }) [.ref al] [(al, .inr (4, [.int (iN 0), .null, .int (iN 0)]))] (fun v_ wn_ => v_ = none ∧ wn_ = [(al, .inr (4, [.int (iN 0), .ref (T.2.2 0), .int (iN 0)]))] ∧ True) 0 0 := by
  exact w_J2_init l hlt T al _ trivial

set_option maxRecDepth 100000 in
set_option maxHeartbeats 4000000 in
theorem w_J2_init_2 (l : Launch) (hlt : l.stackTraces = false) (T : GT) (al : Nat)  (post : Nat → Prop) (v0_ : ∀ (a_2 : Nat), post a_2)  : MW l T yJ2_init_2 cJ2_init_2 2 none ({ frames := 3, cells := 1, slots := 7, locals := 52 }) [.ref al, .int (iN 7)] [(al, .inr (4, [.int (iN 0), .null, .int (iN 0)]))] (fun v_ wn_ => ∃ (da : Nat), v_ = none ∧ wn_ = [(al, .inr (4, [.int (iN 0), .ref da, .int (iN 0)])), (da, .inl (T.2.1 5, 7, .inr (.inr (.inr (.inr (fun _ => none))))))] ∧ post da) 1 7 := by
  refine MW.start hlt (by decide) (lv0 := [some (.ref al), some (.int (iN 7))]) rfl (Nat.le_of_ble_eq_true rfl) rfl ?_
  intro p e R s m args below meth c A cx hr hnm hST hrw
  have vc := v0_
  refine g_aload_n (q := 1) cx dJ2_init_2_0 rfl rfl ?_
  refine g_cIw (q := 4) (b := al) (As := []) (wr := []) (st := []) cx hST hrw (k_J1_init l hlt T al (iN 0) 0) q94 s_J1_init rfl g_perm1 (g_rmB rfl) (Nat.le_of_ble_eq_true rfl) dJ2_init_2_1 rfl (fun v_ wn_ hv_ => ?_)
  obtain ⟨rfl, rfl, e_1⟩ := hv_
  refine g_cs (cells2 := 0) (slots2 := 0) (ws2 := [(al, .inr (4, [.int (iN 0), .null, .int (iN 0)]))]) rfl rfl rfl ?_
  refine g_st (st2 := []) rfl ?_
  refine g_iload_n (q := 5) cx dJ2_init_2_4 rfl rfl ?_
  refine g_if_le (q := 8) (tg := 19) cx dJ2_init_2_5 (by decide) rfl (fun h => absurd h (by decide)) (fun _ => ?_)
  refine g_aload_n (q := 9) cx dJ2_init_2_8 rfl rfl ?_
  refine g_iload_n (q := 10) cx dJ2_init_2_9 rfl rfl ?_
  refine g_anew (q := 13) cx hrw q777 (by decide) 5 rfl (by decide) (by decide) (by decide) dJ2_init_2_10 rfl (fun a_2 => ?_)
  refine g_cs (cells2 := 1) (slots2 := 7) (ws2 := [(al, .inr (4, [.int (iN 0), .null, .int (iN 0)])), (a_2, .inl (T.2.1 5, 7, .inr (.inr (.inr (.inr (fun _ => none))))))]) rfl rfl rfl ?_
  have vc := vc a_2
  refine g_put (q := 16) (ws2 := [(al, .inr (4, [.int (iN 0), .ref a_2, .int (iN 0)])), (a_2, .inl (T.2.1 5, 7, .inr (.inr (.inr (.inr (fun _ => none))))))]) cx hrw k_cJ2 0 rfl 1 (by decide) q103 (Or.inl rfl) rfl rfl rfl (Nat.le_of_ble_eq_true rfl) rfl dJ2_init_2_13 rfl ?_
  refine g_goto (q := 60) cx dJ2_init_2_16 (by decide) ?_
  exact g_vretW cx hr ⟨a_2, rfl, rfl, vc⟩ (by first | exact Nat.le_of_ble_eq_true rfl | omega) (by first | exact Nat.le_of_ble_eq_true rfl | omega) dJ2_init_2_60

theorem k_J2_init_2 (l : Launch) (hlt : l.stackTraces = false) (T : GT) (al : Nat)  : MW l T yJ2_init_2 cJ2_init_2 2 none ({ frames := 3, cells := 1, slots := 7, locals := 52 }) [.ref al, .int (iN 7)] [(al, .inr (4, [.int (iN 0), .null, .int (iN 0)]))] (fun v_ wn_ => ∃ (da : Nat), v_ = none ∧ wn_ = [(al, .inr (4, [.int (iN 0), .ref da, .int (iN 0)])), (da, .inl (T.2.1 5, 7, .inr (.inr (.inr (.inr (fun _ => none))))))] ∧ True) 1 7 := by
  exact w_J2_init_2 l hlt T al _ (fun _ => trivial)

set_option maxRecDepth 100000 in
set_option maxHeartbeats 4000000 in
theorem w_J15_checkIndex (l : Launch) (hlt : l.stackTraces = false) (T : GT) (i : Int) (n : Int)  (post : Int → Prop) (v0_ : (-2147483648 ≤ i ∧ i < 2147483648) ∧ ((i < 0 → (False)) ∧ (0 ≤ i → ((-2147483648 ≤ i ∧ i < 2147483648) ∧ ((-2147483648 ≤ n ∧ n < 2147483648) ∧ ((i < n → (post i)) ∧ (n ≤ i → (False))))))))  : MR l T yJ15_checkIndex cJ15_checkIndex 3 (some .int) ({ frames := 0, cells := 0, slots := 0, locals := 0 }) [.int (iN i), .int (iN n), .null] [] (fun v_ => ∃ (r : Int), v_ = some (.int (iN r)) ∧ post r) := by
  refine MR.start hlt (by decide) (lv0 := [some (.int (iN i)), some (.int (iN n)), some (.null)]) rfl (Nat.le_of_ble_eq_true rfl) rfl ?_
  intro p e R s m args below meth c cx hr hST
  have vc := v0_
  refine g_iload_n (q := 1) cx dJ15_checkIndex_0 rfl rfl ?_
  refine g_if_ltZ (q := 4) (tg := 9) cx vc.1 dJ15_checkIndex_1 (by decide) rfl (fun h_1 => ?_) (fun h_1 => ?_)
  · have vc := vc.2.1 h_1
    exact vc.elim
  · have vc := vc.2.2 h_1
    refine g_iload_n (q := 5) cx dJ15_checkIndex_4 rfl rfl ?_
    refine g_iload_n (q := 6) cx dJ15_checkIndex_5 rfl rfl ?_
    refine g_icmp_ltZ (q := 9) (tg := 16) cx vc.1 vc.2.1 dJ15_checkIndex_6 (by decide) rfl (fun h_2 => ?_) (fun h_2 => ?_)
    · have vc := vc.2.2.1 h_2
      refine g_iload_n (q := 17) cx dJ15_checkIndex_16 rfl rfl ?_
      exact g_iretR cx hr rfl ⟨i, rfl, vc⟩ dJ15_checkIndex_17
    · have vc := vc.2.2.2 h_2
      exact vc.elim

theorem k_J15_checkIndex (l : Launch) (hlt : l.stackTraces = false) (T : GT) (i : Int) (n : Int) (hp0 : 0 ≤ i ∧ i < n) (hp1 : -2147483648 ≤ n ∧ n < 2147483648) : MR l T yJ15_checkIndex cJ15_checkIndex 3 (some .int) ({ frames := 0, cells := 0, slots := 0, locals := 0 }) [.int (iN i), .int (iN n), .null] [] (fun v_ => ∃ (r : Int), v_ = some (.int (iN r)) ∧ r = i) := by
  exact w_J15_checkIndex l hlt T i n _ ⟨by omega, fun h => by omega, fun h => ⟨by omega, hp1, fun h => rfl, fun h => by omega⟩⟩

set_option maxRecDepth 100000 in
set_option maxHeartbeats 4000000 in
theorem w_J21_checkIndex (l : Launch) (hlt : l.stackTraces = false) (T : GT) (i : Int) (n : Int)  (post : Int → Prop) (v0_ : (0 ≤ i ∧ i < n) ∧ ((-2147483648 ≤ n ∧ n < 2147483648) ∧ (post i)))  : MR l T yJ21_checkIndex cJ21_checkIndex 2 (some .int) ({ frames := 1, cells := 0, slots := 0, locals := 22 }) [.int (iN i), .int (iN n)] [] (fun v_ => ∃ (r : Int), v_ = some (.int (iN r)) ∧ post r) := by
  refine MR.start hlt (by decide) (lv0 := [some (.int (iN i)), some (.int (iN n))]) rfl (Nat.le_of_ble_eq_true rfl) rfl ?_
  intro p e R s m args below meth c cx hr hST
  have vc := v0_
  refine g_iload_n (q := 1) cx dJ21_checkIndex_0 rfl rfl ?_
  refine g_iload_n (q := 2) cx dJ21_checkIndex_1 rfl rfl ?_
  refine g_null (q := 3) cx dJ21_checkIndex_2 rfl ?_
  refine g_cSr (q := 6) (As := [.int (iN i), .int (iN n), .null]) (wr := []) (st := []) cx hST (k_J15_checkIndex l hlt T i n (vc.1) (vc.2.1)) q220 s_J15_checkIndex rfl g_perm0 (g_rmB rfl) (Nat.le_of_ble_eq_true rfl) dJ21_checkIndex_3 rfl (fun v_ hv_ => ?_)
  have vc := vc.2
  have vc := vc.2
  obtain ⟨r_1, rfl, e_2⟩ := hv_
  replace e_2 := e_2.symm
  subst e_2
  refine g_st (st2 := [.int (iN i)]) rfl ?_
  exact g_iretR cx hr rfl ⟨i, rfl, vc⟩ dJ21_checkIndex_6

theorem k_J21_checkIndex (l : Launch) (hlt : l.stackTraces = false) (T : GT) (i : Int) (n : Int) (hp0 : 0 ≤ i ∧ i < n) (hp1 : -2147483648 ≤ n ∧ n < 2147483648) : MR l T yJ21_checkIndex cJ21_checkIndex 2 (some .int) ({ frames := 1, cells := 0, slots := 0, locals := 22 }) [.int (iN i), .int (iN n)] [] (fun v_ => ∃ (r : Int), v_ = some (.int (iN r)) ∧ r = i) := by
  exact w_J21_checkIndex l hlt T i n _ ⟨hp0, hp1, rfl⟩

set_option maxRecDepth 100000 in
set_option maxHeartbeats 4000000 in
theorem w_J2_get (l : Launch) (hlt : l.stackTraces = false) (T : GT) (al : Nat) (da : Nat) (mcn : Int32) (size : Int) (cap : Nat) (el : Nat → Option Nat) (i : Int) (y : Nat)  (post : Nat → Prop) (v0_ : (0 ≤ i ∧ i < size) ∧ ((-2147483648 ≤ size ∧ size < 2147483648) ∧ ((0 ≤ i ∧ i < cap) ∧ ((cap < 2147483648) ∧ ((el i.toNat = some y) ∧ (post y))))))  : MR l T yJ2_get cJ2_get 2 (some (.object "java/lang/Object")) ({ frames := 2, cells := 0, slots := 0, locals := 43 }) [.ref al, .int (iN i)] [(al, .inr (4, [.int mcn, .ref da, .int (iN size)])), (da, .inl (T.2.1 5, cap, .inr (.inr (.inr (.inr el)))))] (fun v_ => ∃ (v : Nat), v_ = some (.ref v) ∧ post v) := by
  refine MR.start hlt (by decide) (lv0 := [some (.ref al), some (.int (iN i))]) rfl (Nat.le_of_ble_eq_true rfl) rfl ?_
  intro p e R s m args below meth c cx hr hST
  have vc := v0_
  refine g_iload_n (q := 1) cx dJ2_get_0 rfl rfl ?_
  refine g_aload_n (q := 2) cx dJ2_get_1 rfl rfl ?_
  refine g_get (q := 5) cx k_cJ2 0 rfl 2 (by decide) q106 (Or.inl rfl) rfl dJ2_get_2 rfl ?_
  refine g_cSr (q := 8) (As := [.int (iN i), .int (iN size)]) (wr := [(al, .inr (4, [.int mcn, .ref da, .int (iN size)])), (da, .inl (T.2.1 5, cap, .inr (.inr (.inr (.inr el)))))]) (st := []) cx hST (k_J21_checkIndex l hlt T i size (vc.1) (vc.2.1)) q217 s_J21_checkIndex rfl g_perm0 (g_rmB rfl) (Nat.le_of_ble_eq_true rfl) dJ2_get_5 rfl (fun v_ hv_ => ?_)
  have vc := vc.2
  have vc := vc.2
  obtain ⟨r_1, rfl, e_2⟩ := hv_
  replace e_2 := e_2.symm
  subst e_2
  refine g_st (st2 := [.int (iN i)]) rfl ?_
  refine g_pop (q := 9) cx dJ2_get_8 rfl rfl ?_
  refine g_aload_n (q := 10) cx dJ2_get_9 rfl rfl ?_
  refine g_iload_n (q := 11) cx dJ2_get_10 rfl rfl ?_
  refine g_cVr (q := 14) (b := al) (As := [.int (iN i)]) (wr := []) (st := []) cx hST (k_J2_elementData l hlt T al da mcn size cap el i y (vc.1) (vc.2.1) (vc.2.2.1)) q223 s_J2_elementData rfl 0 rfl rfl g_perm1 (g_rmB rfl) (Nat.le_of_ble_eq_true rfl) dJ2_get_11 rfl (fun v_ hv_ => ?_)
  have vc := vc.2
  have vc := vc.2
  have vc := vc.2
  obtain ⟨v_4, rfl, e_5⟩ := hv_
  replace e_5 := e_5.symm
  subst e_5
  refine g_st (st2 := [.ref y]) rfl ?_
  exact g_aretR cx hr (Or.inl ⟨_, rfl⟩) ⟨y, rfl, vc⟩ dJ2_get_14

theorem k_J2_get (l : Launch) (hlt : l.stackTraces = false) (T : GT) (al : Nat) (da : Nat) (mcn : Int32) (size : Int) (cap : Nat) (el : Nat → Option Nat) (i : Int) (y : Nat) (hp0 : 0 ≤ i ∧ i < size) (hp1 : -2147483648 ≤ size ∧ size < 2147483648) (hp2 : 0 ≤ i ∧ i < cap) (hp3 : cap < 2147483648) (hp4 : el i.toNat = some y) : MR l T yJ2_get cJ2_get 2 (some (.object "java/lang/Object")) ({ frames := 2, cells := 0, slots := 0, locals := 43 }) [.ref al, .int (iN i)] [(al, .inr (4, [.int mcn, .ref da, .int (iN size)])), (da, .inl (T.2.1 5, cap, .inr (.inr (.inr (.inr el)))))] (fun v_ => ∃ (v : Nat), v_ = some (.ref v) ∧ v = y) := by
  exact w_J2_get l hlt T al da mcn size cap el i y _ ⟨hp0, hp1, hp2, hp3, hp4, rfl⟩
