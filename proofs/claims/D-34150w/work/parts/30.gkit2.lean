/-! MORE ROWS OF MY LAYER: worlds with pools, references, calls by an interface, nest mates -/
set_option maxRecDepth 100000
theorem g_flat {α : Type} {L M : List (List α)} (h : L.Perm M) : L.flatten.Perm M.flatten := by
  induction h with
  | nil => exact List.Perm.refl _
  | cons x _ ih => exact List.Perm.append_left x ih
  | swap x y l =>
    show (y ++ (x ++ l.flatten)).Perm (x ++ (y ++ l.flatten))
    rw [← List.append_assoc, ← List.append_assoc]
    exact List.Perm.append_right _ List.perm_append_comm
  | trans _ _ h1 h2 => exact h1.trans h2
/-- worlds as blocks: one part and the rest -/
theorem g_permB {α : Type} {ws wr wc : List α} {L R C : List (List α)} (l : List Nat) (h : l.isPerm (List.range L.length) = true) (hm : l.map (fun i => L[i]?) = (R ++ C).map some) (h1 : L.flatten = ws) (h2 : R.flatten = wr) (h3 : C.flatten = wc) : ws.Perm (wr ++ wc) := by
  have := g_flat (g_perm l h hm)
  rw [List.flatten_append, h1, h2, h3] at this
  exact this
theorem g_permD {α : Type} {ws wr wc : List α} {L R C : List (List α)} (l : List Nat) (h : l.isPerm (List.range L.length) = true) (hm : l.map (fun i => L[i]?) = (R ++ C).map some) (h1 : L.flatten = ws) (h2 : R.flatten = wr) (h3 : C.flatten = wc) : (wr ++ wc).Perm ws := (g_permB l h hm h1 h2 h3).symm
theorem g_permE {α : Type} {ws wm : List α} {L M : List (List α)} (l : List Nat) (h : l.isPerm (List.range L.length) = true) (hm : l.map (fun i => L[i]?) = M.map some) (h1 : L.flatten = ws) (h2 : M.flatten = wm) : ws.Perm wm := by
  subst h1 h2
  exact g_flat (g_perm l h hm)
/-- pools: rows of ints, rows of bytes, arrays of references, weights -/
def PI (c : ClassId) (n N : Nat) (ad : Nat → Nat) (rows : Nat → Nat → Int) : va_W := (List.range n).map (fun k => (ad k, .inl (c, N, .inl (zA (rows k)))))
def PQ (c : ClassId) (n N : Nat) (ad : Nat → Nat) (rows : Nat → Nat → Option Nat) : va_W := (List.range n).map (fun k => (ad k, .inl (c, N, .inr (.inr (.inr (.inr (rows k)))))))
def PW (n : Nat) (ad : Nat → Nat) (ms es : Nat → Int) : va_W := (List.range n).map (fun k => (ad k, .inr (3, [.int (iN (ms k)), .int (iN (es k))])))
theorem PI_mem {c : ClassId} {n N : Nat} {ad : Nat → Nat} {rows : Nat → Nat → Int} {k : Nat} (h : k < n) : (ad k, .inl (c, N, .inl (zA (rows k)))) ∈ PI c n N ad rows := List.mem_map.mpr ⟨k, List.mem_range.mpr h, rfl⟩
theorem PQ_mem {c : ClassId} {n N : Nat} {ad : Nat → Nat} {rows : Nat → Nat → Option Nat} {k : Nat} (h : k < n) : (ad k, .inl (c, N, .inr (.inr (.inr (.inr (rows k)))))) ∈ PQ c n N ad rows := List.mem_map.mpr ⟨k, List.mem_range.mpr h, rfl⟩
theorem PW_mem {n : Nat} {ad : Nat → Nat} {ms es : Nat → Int} {k : Nat} (h : k < n) : (ad k, .inr (3, [.int (iN (ms k)), .int (iN (es k))])) ∈ PW n ad ms es := List.mem_map.mpr ⟨k, List.mem_range.mpr h, rfl⟩
theorem g_mh {α : Type} {x y : α} {l : List α} (h : x ∈ l) : x ∈ y :: l := List.mem_cons_of_mem _ h
theorem g_ml {α : Type} {x : α} {l k : List α} (h : x ∈ l) : x ∈ l ++ k := List.mem_append_left _ h
theorem g_mr {α : Type} {x : α} {l k : List α} (h : x ∈ k) : x ∈ l ++ k := List.mem_append_right _ h
/-- a cell of a world, and the world with another there -/
def g_at (ws : va_W) (x : Nat × va_E) (e : va_E) (ws2 : va_W) : Prop := ∃ q0 : Nat, ws[q0]? = some x ∧ ws.set q0 (x.1, e) = ws2
theorem g_at_h {ws ws2 : va_W} {x y : Nat × va_E} {e : va_E} (h : g_at ws x e ws2) : g_at (y :: ws) x e (y :: ws2) := by
  obtain ⟨q0, h1, h2⟩ := h
  exact ⟨q0 + 1, by simpa using h1, by simp [h2]⟩
theorem g_at_r {P ws ws2 : va_W} {x : Nat × va_E} {e : va_E} (h : g_at ws x e ws2) : g_at (P ++ ws) x e (P ++ ws2) := by
  obtain ⟨q0, h1, h2⟩ := h
  refine ⟨P.length + q0, ?_, ?_⟩
  · rw [List.getElem?_append_right (by omega), Nat.add_sub_cancel_left]; exact h1
  · rw [List.set_append_right _ _ (by omega), Nat.add_sub_cancel_left, h2]
theorem g_at_PI {c : ClassId} {n N : Nat} {ad : Nat → Nat} {rows : Nat → Nat → Int} {k : Nat} {g : Nat → Int} {ws : va_W} (h : k < n) : g_at (PI c n N ad rows ++ ws) (ad k, .inl (c, N, .inl (zA (rows k)))) (.inl (c, N, .inl (zA g))) (PI c n N ad (va_up rows k g) ++ ws) := by
  have hl : (PI c n N ad rows).length = n := by unfold PI; rw [List.length_map, List.length_range]
  refine ⟨k, ?_, ?_⟩
  · rw [List.getElem?_append_left (by omega)]
    unfold PI
    rw [List.getElem?_map, List.getElem?_range h]
    rfl
  · rw [List.set_append_left _ _ (by omega)]
    congr 1
    apply List.ext_getElem?
    intro i
    by_cases hi : i < n
    · by_cases hk : i = k
      · subst hk
        rw [List.getElem?_set_self (by omega)]
        unfold PI
        rw [List.getElem?_map, List.getElem?_range h]
        simp [va_up]
      · rw [List.getElem?_set_ne (Ne.symm hk)]
        unfold PI
        rw [List.getElem?_map, List.getElem?_map, List.getElem?_range hi]
        simp [va_up, hk]
    · rw [List.getElem?_eq_none (by rw [List.length_set]; omega), List.getElem?_eq_none (by unfold PI; rw [List.length_map, List.length_range]; omega)]
section GK2
variable {p : Program} {l : Launch} {e : Env} {R : Room} {s : State} {m : MethodId} {args : Array Value} {below : List Frame} {meth : Method} {c : Code} {nL : Nat} {T : GT} {A B : Nat → Prop} {Q : State → Prop}
variable {cells slots : Nat} {ws : va_W} {lv : List (Option Value)} {pc q : Nat} {st : List Value} {cc : ByteArray} {own : String} {rm : Room}
theorem g_ialdM (cx : g_cx p l R s m args c nL T cc own rm) {a n : Nat} {f : Nat → Int} (hn : n < 2147483648) (he : (a, .inl (T.2.1 0, n, .inl (zA f))) ∈ ws) {i : Int} (hin : 0 ≤ i ∧ i < n) (d : decode cc pc = .ok (.iaload, 1)) (hq : pc + 1 = q) (kk : G p l e R s m args below meth c nL T A B Q cells slots ws lv q (.int (iN (f i.toNat)) :: st)) : G p l e R s m args below meth c nL T A B Q cells slots ws lv pc (.int (iN i) :: .ref a :: st) := by
  obtain ⟨k, hk⟩ := List.getElem?_of_mem he
  exact g_ialdZ cx k hn hk hin d hq kk
theorem g_baldM (cx : g_cx p l R s m args c nL T cc own rm) {a n : Nat} {f : Nat → Int} (hn : n < 2147483648) (he : (a, .inl (T.2.1 1, n, .inl (zA f))) ∈ ws) {i : Int} (hin : 0 ≤ i ∧ i < n) (d : decode cc pc = .ok (.baload, 1)) (hq : pc + 1 = q) (kk : G p l e R s m args below meth c nL T A B Q cells slots ws lv q (.int (iN (f i.toNat)) :: st)) : G p l e R s m args below meth c nL T A B Q cells slots ws lv pc (.int (iN i) :: .ref a :: st) := by
  obtain ⟨k, hk⟩ := List.getElem?_of_mem he
  exact g_baldZ cx k hn hk hin d hq kk
theorem g_aaldM (cx : g_cx p l R s m args c nL T cc own rm) (t0 : Nat) {a n y : Nat} {cA : ClassId} {ty : FieldType} {f : Nat → Option Nat} (hn : n < 2147483648) (he : (a, .inl (cA, n, .inr (.inr (.inr (.inr f))))) ∈ ws) (ht : (TYs T.2.1)[t0]? = some (cA, ty)) (hrt : (∃ C, ty = .object C) ∨ ∃ t, ty = .array t) {i : Int} (hin : 0 ≤ i ∧ i < n) (hy : f i.toNat = some y) (d : decode cc pc = .ok (.aaload, 1)) (hq : pc + 1 = q) (kk : G p l e R s m args below meth c nL T A B Q cells slots ws lv q (.ref y :: st)) : G p l e R s m args below meth c nL T A B Q cells slots ws lv pc (.int (iN i) :: .ref a :: st) := by
  obtain ⟨k, hk⟩ := List.getElem?_of_mem he
  exact g_aaldZ cx k t0 hn hk ht hrt hin hy d hq kk
theorem g_alenM (cx : g_cx p l R s m args c nL T cc own rm) (t0 : Nat) {a : Nat} {cA : ClassId} {ty : FieldType} {x : vp_A} (he : (a, .inl (cA, x)) ∈ ws) (ht : (TYs T.2.1)[t0]? = some (cA, ty)) (d : decode cc pc = .ok (.arraylength, 1)) (hq : pc + 1 = q) (kk : G p l e R s m args below meth c nL T A B Q cells slots ws lv q (.int (iN (x.1 : Int)) :: st)) : G p l e R s m args below meth c nL T A B Q cells slots ws lv pc (.ref a :: st) := by
  obtain ⟨k, hk⟩ := List.getElem?_of_mem he
  exact g_alenZ cx k t0 hk ht d hq kk
theorem g_iastM (cx : g_cx p l R s m args c nL T cc own rm) (rw_ : g_rw s A B) {a n : Nat} {f : Nat → Int} {x : Int} (hn : n < 2147483648) {i : Int} {ws2 : va_W} (hw : g_at ws (a, .inl (T.2.1 0, n, .inl (zA f))) (.inl (T.2.1 0, n, .inl (zA (va_up f i.toNat x)))) ws2) (hin : 0 ≤ i ∧ i < n) (d : decode cc pc = .ok (.iastore, 1)) (hq : pc + 1 = q) (kk : G p l e R s m args below meth c nL T A B Q cells slots ws2 lv q st) : G p l e R s m args below meth c nL T A B Q cells slots ws lv pc (.int (iN x) :: .int (iN i) :: .ref a :: st) := by
  obtain ⟨k, hk, rfl⟩ := hw
  exact g_iastZ cx rw_ k hn hk hin rfl d hq kk
theorem g_bastM (cx : g_cx p l R s m args c nL T cc own rm) (rw_ : g_rw s A B) {a n : Nat} {f : Nat → Int} {x : Int} (hx : -128 ≤ x ∧ x < 128) (hn : n < 2147483648) {i : Int} {ws2 : va_W} (hw : g_at ws (a, .inl (T.2.1 1, n, .inl (zA f))) (.inl (T.2.1 1, n, .inl (zA (va_up f i.toNat x)))) ws2) (hin : 0 ≤ i ∧ i < n) (d : decode cc pc = .ok (.bastore, 1)) (hq : pc + 1 = q) (kk : G p l e R s m args below meth c nL T A B Q cells slots ws2 lv q st) : G p l e R s m args below meth c nL T A B Q cells slots ws lv pc (.int (iN x) :: .int (iN i) :: .ref a :: st) := by
  obtain ⟨k, hk, rfl⟩ := hw
  exact g_bastZ cx rw_ k hx hn hk hin rfl d hq kk
/-- an element that is null or not, as it lies there -/
theorem g_aaldN (cx : g_cx p l R s m args c nL T cc own rm) (q0 t0 : Nat) {a n : Nat} {cA : ClassId} {C : String} {f : Nat → Option Nat} (hn : n < 2147483648) (he : ws[q0]? = some (a, .inl (cA, n, .inr (.inr (.inr (.inr f)))))) (ht : (TYs T.2.1)[t0]? = some (cA, .object C)) {i : Int} (hin : 0 ≤ i ∧ i < n) (d : decode cc pc = .ok (.aaload, 1)) (hq : pc + 1 = q) (kk : G p l e R s m args below meth c nL T A B Q cells slots ws lv q (va_rf (f i.toNat) :: st)) : G p l e R s m args below meth c nL T A B Q cells slots ws lv pc (.int (iN i) :: .ref a :: st) := by
  subst hq
  exact fun H locs ls hP hD hS hl => va_aldq cx.1 cx.2.1 cx.2.2.2.2.2.1.1 hP q0 t0 he ht ((iN_vp (by omega) (by omega)).mpr hin) d (by rw [iN_cl hin.1 (by omega)]; exact kk H locs ls hP hD hS hl)
/-- an object of class C put into an array of Objects -/
theorem g_aastO (cx : g_cx p l R s m args c nL T cc own rm) (rw_ : g_rw s A B) (q0 t0 ci : Nat) {a n v : Nat} {cA : ClassId} {C E : String} {Tt : u_T} {N : Nat} {vs : List Value} {f : Nat → Option Nat} (hn : n < 2147483648) (he : ws[q0]? = some (a, .inl (cA, n, .inr (.inr (.inr (.inr f)))))) (ht : (TYs T.2.1)[t0]? = some (cA, .object E)) (hca : Cond.castable C E ∈ lw_tbl) (hv : (v, .inr (ci, vs)) ∈ ws) (hc : CL[ci]? = some (C, Tt, N)) {i : Int} (hin : 0 ≤ i ∧ i < n) {ws2 : va_W} (hw : ws.set q0 (a, .inl (cA, n, .inr (.inr (.inr (.inr (va_up f i.toNat (some v))))))) = ws2) (d : decode cc pc = .ok (.aastore, 1)) (hq : pc + 1 = q) (kk : G p l e R s m args below meth c nL T A B Q cells slots ws2 lv q st) : G p l e R s m args below meth c nL T A B Q cells slots ws lv pc (.ref v :: .int (iN i) :: .ref a :: st) := by
  subst hq
  subst hw
  obtain ⟨rfl, hA⟩ := rw_
  obtain ⟨qk, hqk⟩ := List.getElem?_of_mem hv
  intro H locs ls hP hD hS hl
  refine va_astqO cx.1 cx.2.1 cx.2.2.2.2.2.1.1 hP hD hS q0 t0 qk ci he ht (cx.2.2.2.2.2.1.2.1 _ hca rfl) hqk hc ((iN_vp (by omega) (by omega)).mpr hin) d ?_
  rw [iN_cl hin.1 (by omega)]
  exact fun H1 locs1 hP1 hD1 hS1 => kk H1 locs1 ls hP1 hD1 hS1 hl
theorem g_aastN (cx : g_cx p l R s m args c nL T cc own rm) (rw_ : g_rw s A B) (q0 t0 : Nat) {a n : Nat} {cA : ClassId} {E : String} {f : Nat → Option Nat} (hn : n < 2147483648) (he : ws[q0]? = some (a, .inl (cA, n, .inr (.inr (.inr (.inr f)))))) (ht : (TYs T.2.1)[t0]? = some (cA, .object E)) {i : Int} (hin : 0 ≤ i ∧ i < n) {ws2 : va_W} (hw : ws.set q0 (a, .inl (cA, n, .inr (.inr (.inr (.inr (va_up f i.toNat none)))))) = ws2) (d : decode cc pc = .ok (.aastore, 1)) (hq : pc + 1 = q) (kk : G p l e R s m args below meth c nL T A B Q cells slots ws2 lv q st) : G p l e R s m args below meth c nL T A B Q cells slots ws lv pc (.null :: .int (iN i) :: .ref a :: st) := by
  subst hq
  subst hw
  obtain ⟨rfl, hA⟩ := rw_
  intro H locs ls hP hD hS hl
  refine va_astqN cx.1 cx.2.1 cx.2.2.2.2.2.1.1 hP hD hS q0 t0 he ht ((iN_vp (by omega) (by omega)).mpr hin) d ?_
  rw [iN_cl hin.1 (by omega)]
  exact fun H1 locs1 hP1 hD1 hS1 => kk H1 locs1 ls hP1 hD1 hS1 hl
theorem g_castS (cx : g_cx p l R s m args c nL T cc own rm) (ci : Nat) {a index : Nat} {C : String} {Tt : u_T} {N : Nat} {fs : List Value} (he : (a, .inr (ci, fs)) ∈ ws) (hc : CL[ci]? = some (C, Tt, N)) (hlink : Cond.classLink own index C ∈ lw_all) (d : decode cc pc = .ok (.checkcast index, 3)) (hq : pc + 3 = q) (kk : G p l e R s m args below meth c nL T A B Q cells slots ws lv q (.ref a :: st)) : G p l e R s m args below meth c nL T A B Q cells slots ws lv pc (.ref a :: st) := by
  subst hq
  obtain ⟨q0, h0⟩ := List.getElem?_of_mem he
  exact fun H locs ls hP hD hS hl => va_castS cx.1 cx.2.1 cx.2.2.2.1 (cx.2.2.2.2.1 _ hlink) (cx.2.2.2.2.2.1.1.1 ci _ hc).2 (va_recv cx.2.2.2.2.2.1.1 hP hc h0) d (kk H locs ls hP hD hS hl)
theorem g_getsE (cx : g_cx p l R s m args c nL T cc own rm) (hST : ST T A s s.heap) {index : Nat} (hlink : Cond.fieldLink own index "java/util/ArrayList" "DEFAULTCAPACITY_EMPTY_ELEMENTDATA" "[Ljava/lang/Object;" ∈ lw_all) (d : decode cc pc = .ok (.getstatic index, 3)) (hq : pc + 3 = q) (kk : G p l e R s m args below meth c nL T A B Q cells slots ws lv q (.ref (T.2.2 0) :: st)) : G p l e R s m args below meth c nL T A B Q cells slots ws lv pc st := by
  subst hq
  exact fun H locs ls hP hD hS hl => va_gets cx.1 cx.2.1 hST.1 hS cx.2.2.2.1 (cx.2.2.2.2.1 _ hlink) (fun x hx => hx) d (kk H locs ls hP hD hS hl)
theorem g_alenE (cx : g_cx p l R s m args c nL T cc own rm) (hST : ST T A s s.heap) (d : decode cc pc = .ok (.arraylength, 1)) (hq : pc + 1 = q) (kk : G p l e R s m args below meth c nL T A B Q cells slots ws lv q (.int (iN 0) :: st)) : G p l e R s m args below meth c nL T A B Q cells slots ws lv pc (.ref (T.2.2 0) :: st) := by
  subst hq
  intro H locs ls hP hD hS hl
  obtain ⟨⟨scr, h1, h2, h3⟩, h4⟩ := (hST.2).kept hS.2.1
  exact W.alen (n := iN 0) cx.1 cx.2.1 h1 h2 (by rw [h3]; rfl) rfl rfl d (kk H locs ls hP hD hS hl)
/-- a call of a method on a cell of a pool, reading that cell alone -/
theorem g_preR1 {x : Nat × va_E} {H : Heap} {locs : List Loc} {ls : Array Slot} (cx : g_cx p l R s m args c nL T cc own rm) (hST : ST T A s s.heap) (hP : va_P T.1 CL ws H) (hS : va_S A s.heap H locs) (hp : x ∈ ws) (U : State) (hU : U.heap = H) (hW : s.WarmedH U.vm) : g_pre T [x] (fun _ => False) U := by
  refine ⟨by rw [hU]; exact hP.mem (fun q hq => by cases List.mem_singleton.mp hq; exact hp), cx.2.2.2.2.2.1.warm hW, ⟨fun i j a b hi hj _ => ?_, fun _ _ _ => trivial⟩, ?_⟩
  · have h1 := (List.getElem?_eq_some_iff.mp hi).1
    have h2 := (List.getElem?_eq_some_iff.mp hj).1
    simp only [List.length_singleton] at h1 h2
    omega
  · rw [hU]
    exact ((hST.kept hS.2.1).narrow (fun _ h => h.elim)).moved hW.alike
theorem g_cVr1 (cx : g_cx p l R s m args c nL T cc own rm) (hST : ST T A s s.heap) {y : MethodName} {bc : ByteArray} {nY index n : Nat} {ret : Option FieldType} {rc : Room} {b : Nat} {As : List Value} {ci : Nat} {fs : List Value} {post : Option Value → Prop} (hM : MR l T y bc nY ret rc (.ref b :: As) [(b, .inr (ci, fs))] post) (hlink : Cond.methodLink own index y ∈ lw_all) (hy : g_mv y bc nY ret n) (hn : As.length = n) {Tt : u_T} {N : Nat} (he : (b, .inr (ci, fs)) ∈ ws) (hc : CL[ci]? = some (y.cls, Tt, N)) (hrm : g_rm rc rm nY 0 0 cells slots) (hro : g_room st) (d : decode cc pc = .ok (.invokevirtual index, 3)) (hq : pc + 3 = q) (kk : ∀ v, post v → G p l e R s m args below meth c nL T A B Q cells slots ws lv q (v.toList ++ st)) : G p l e R s m args below meth c nL T A B Q cells slots ws lv pc (As.reverse ++ .ref b :: st) := by
  subst hq
  obtain ⟨q0, h0⟩ := List.getElem?_of_mem he
  intro H locs ls hP hD hS hl
  have hR := cx.2.2.2.2.2.2.1
  subst hR
  exact g_afterR (w := 3) hP hD hS hl (va_runV ⟨cx.1, cx.2.1, cx.2.2.1, cx.2.2.2.1, cx.2.2.2.2.1⟩ hM (cwV n cx.2.2.2.2.1 (lw_V hlink hy.1 hy.2.1 hy.2.2.1 hy.2.2.2.1) rfl hrm.2.2.2.2.1 hrm.2.2.2.2.2 ⟨rfl, hy.2.2.2.2⟩ ⟨hrm.1, hrm.2.1⟩) ⟨g_blindR, va_recv cx.2.2.2.2.2.1.1 hP hc h0, fun U hU hW => ⟨rfl, g_preR1 (ls := ls) cx hST hP hS he U hU hW⟩⟩ rfl hn hl.1.1 rfl (lv_room hro) d ⟨hrm.2.2.1, hrm.2.2.2.1⟩) kk
/-! ===== calls by an interface ===== -/
theorem lw_F {own : String} {idx : Nat} {C : String} {x y : MethodName} {b : ByteArray} {L : Nat} {r : Option FieldType} (h1 : Cond.methodLink own idx x ∈ lw_all) (h2 : Cond.selects C x y ∈ lw_all) (h3 : Cond.instanceMethod y ∈ lw_all) (h4 : Cond.initialized y.cls ∈ lw_all) (h5 : Cond.code y b L r ∈ lw_all) : GoodIn lw_all (va_wsF own idx C x y (ws_ y b L r)) := by
  refine lw_app ?_ (lw_meth h5)
  intro w hw
  simp only [List.mem_cons, List.not_mem_nil, or_false] at hw
  rcases hw with e | e | e | e
  all_goals subst e
  · exact h1
  · exact h2
  · exact h3
  · exact h4
/-- y answers a call of x on an object of class C -/
def g_mf (C : String) (x y : MethodName) (bc : ByteArray) (nL : Nat) (ret : Option FieldType) (n : Nat) : Prop := (∀ U, FW U → va_Fw C x y U) ∧ Cond.selects C x y ∈ lw_all ∧ Cond.instanceMethod y ∈ lw_all ∧ Cond.initialized y.cls ∈ lw_all ∧ Cond.code y bc nL ret ∈ lw_all ∧ g_hd x n
theorem g_cFr (cx : g_cx p l R s m args c nL T cc own rm) (hST : ST T A s s.heap) {x y : MethodName} {bc : ByteArray} {nY index count n : Nat} {ret : Option FieldType} {rc : Room} {b : Nat} {As : List Value} {wc wr : va_W} {C : String} {post : Option Value → Prop} (hM : MR l T y bc nY ret rc (.ref b :: As) wc post) (hlink : Cond.methodLink own index x ∈ lw_all) (hy : g_mf C x y bc nY ret n) (hn : As.length = n) (q0 : Nat) {ci : Nat} {fs : List Value} {Tt : u_T} {N : Nat} (he : ws[q0]? = some (b, .inr (ci, fs))) (hc : CL[ci]? = some (C, Tt, N)) (hp : ws.Perm (wr ++ wc)) (hrm : g_rm rc rm nY 0 0 cells slots) (hro : g_room st) (d : decode cc pc = .ok (.invokeinterface index count, 5)) (hq : pc + 5 = q) (kk : ∀ v, post v → G p l e R s m args below meth c nL T A B Q cells slots ws lv q (v.toList ++ st)) : G p l e R s m args below meth c nL T A B Q cells slots ws lv pc (As.reverse ++ .ref b :: st) := by
  subst hq
  intro H locs ls hP hD hS hl
  have hR := cx.2.2.2.2.2.2.1
  subst hR
  exact g_afterR (w := 5) hP hD hS hl (va_runF (cx.2.2.2.2.2.1.1.1 ci _ hc).2 ⟨cx.1, cx.2.1, cx.2.2.1, cx.2.2.2.1, cx.2.2.2.2.1⟩ hM (va_cwF n cx.2.2.2.2.1 (lw_F hlink hy.2.1 hy.2.2.1 hy.2.2.2.1 hy.2.2.2.2.1) rfl hrm.2.2.2.2.1 hrm.2.2.2.2.2 (hy.1 s cx.2.2.2.2.2.1.2.2.1) hy.2.2.2.2.2 ⟨hrm.1, hrm.2.1⟩) ⟨g_blindR, va_recv cx.2.2.2.2.2.1.1 hP hc he, fun U hU hW => ⟨rfl, g_preR (ls := ls) cx hST hP hD hS hp U hU hW⟩⟩ rfl hn hl.1.1 rfl (lv_room hro) d ⟨hrm.2.2.1, hrm.2.2.2.1⟩) kk
theorem g_cFw (cx : g_cx p l R s m args c nL T cc own rm) (hST : ST T A s s.heap) (rw_ : g_rw s A B) {x y : MethodName} {bc : ByteArray} {nY index count n mc ms : Nat} {ret : Option FieldType} {rc : Room} {b : Nat} {As : List Value} {wc wr : va_W} {C : String} {post : Option Value → va_W → Prop} (hM : MW l T y bc nY ret rc (.ref b :: As) wc post mc ms) (hlink : Cond.methodLink own index x ∈ lw_all) (hy : g_mf C x y bc nY ret n) (hn : As.length = n) (q0 : Nat) {ci : Nat} {fs : List Value} {Tt : u_T} {N : Nat} (he : ws[q0]? = some (b, .inr (ci, fs))) (hc : CL[ci]? = some (C, Tt, N)) (hp : ws.Perm (wr ++ wc)) (hrm : g_rm rc rm nY mc ms cells slots) (hro : g_room st) (d : decode cc pc = .ok (.invokeinterface index count, 5)) (hq : pc + 5 = q) (kk : ∀ v wn, post v wn → G p l e R s m args below meth c nL T A B Q (cells + mc) (slots + ms) (wr ++ wn) lv q (v.toList ++ st)) : G p l e R s m args below meth c nL T A B Q cells slots ws lv pc (As.reverse ++ .ref b :: st) := by
  subst hq
  obtain ⟨rfl, hA⟩ := rw_
  intro H locs ls hP hD hS hl
  have hR := cx.2.2.2.2.2.2.1
  subst hR
  exact g_afterW (w := 5) hA hP hD hS hl hp (va_runF (cx.2.2.2.2.2.1.1.1 ci _ hc).2 ⟨cx.1, cx.2.1, cx.2.2.1, cx.2.2.2.1, cx.2.2.2.2.1⟩ (hM H.size) (va_cwF n cx.2.2.2.2.1 (lw_F hlink hy.2.1 hy.2.2.1 hy.2.2.2.1 hy.2.2.2.2.1) rfl hrm.2.2.2.2.1 hrm.2.2.2.2.2 (hy.1 s cx.2.2.2.2.2.1.2.2.1) hy.2.2.2.2.2 ⟨hrm.1, hrm.2.1⟩) ⟨g_blindW, va_recv cx.2.2.2.2.2.1.1 hP hc he, fun U hU hW => ⟨rfl, g_preW cx hST hA hP hD hS hp U hU hW⟩⟩ rfl hn hl.1.1 rfl (lv_room hro) d ⟨hrm.2.2.1, hrm.2.2.2.1⟩) kk
/-! ===== calls of nest mates ===== -/
theorem g_cSrN (cx : g_cx p l R s m args c nL T cc own rm) (hST : ST T A s s.heap) {y : MethodName} {bc : ByteArray} {nY index n : Nat} {host : String} {ret : Option FieldType} {rc : Room} {As : List Value} {wc wr : va_W} {post : Option Value → Prop} (hM : MR l T y bc nY ret rc As wc post) (hlink : Cond.methodLinkNest own index y host ∈ lw_tbl) (hy : g_ms y bc nY ret n) (hn : As.length = n) (hp : ws.Perm (wr ++ wc)) (hrm : g_rm rc rm nY 0 0 cells slots) (hro : g_room st) (d : decode cc pc = .ok (.invokestatic index, 3)) (hq : pc + 3 = q) (kk : ∀ v, post v → G p l e R s m args below meth c nL T A B Q cells slots ws lv q (v.toList ++ st)) : G p l e R s m args below meth c nL T A B Q cells slots ws lv pc (As.reverse ++ st) := by
  subst hq
  intro H locs ls hP hD hS hl
  have hR := cx.2.2.2.2.2.2.1
  subst hR
  exact g_afterR (w := 3) hP hD hS hl (va_runSN ⟨cx.1, cx.2.1, cx.2.2.1, cx.2.2.2.1, cx.2.2.2.2.1⟩ hM ⟨va_cnB n cx.2.2.2.2.1 (lw_meth hy.2.2.1) rfl hrm.2.2.2.2.1 hrm.2.2.2.2.2 (cx.2.2.2.2.2.1.2.1 _ hlink rfl) (cx.2.2.2.2.1 _ hy.2.1) hy.2.2.2 ⟨hrm.1, hrm.2.1⟩, cx.2.2.2.2.1 _ hy.1, trivial⟩ ⟨g_blindR, fun U hU hW => ⟨rfl, g_preR (ls := ls) cx hST hP hD hS hp U hU hW⟩⟩ rfl hn hl.1.1 rfl (lv_room hro) d ⟨hrm.2.2.1, hrm.2.2.2.1⟩) kk
theorem g_cVwN (cx : g_cx p l R s m args c nL T cc own rm) (hST : ST T A s s.heap) (rw_ : g_rw s A B) {y : MethodName} {bc : ByteArray} {nY index n mc ms : Nat} {host : String} {ret : Option FieldType} {rc : Room} {b : Nat} {As : List Value} {wc wr : va_W} {post : Option Value → va_W → Prop} (hM : MW l T y bc nY ret rc (.ref b :: As) wc post mc ms) (hlink : Cond.methodLinkNest own index y host ∈ lw_tbl) (hy : g_mv y bc nY ret n) (hn : As.length = n) (q0 : Nat) {ci : Nat} {fs : List Value} {Tt : u_T} {N : Nat} (he : ws[q0]? = some (b, .inr (ci, fs))) (hc : CL[ci]? = some (y.cls, Tt, N)) (hp : ws.Perm (wr ++ wc)) (hrm : g_rm rc rm nY mc ms cells slots) (hro : g_room st) (d : decode cc pc = .ok (.invokevirtual index, 3)) (hq : pc + 3 = q) (kk : ∀ v wn, post v wn → G p l e R s m args below meth c nL T A B Q (cells + mc) (slots + ms) (wr ++ wn) lv q (v.toList ++ st)) : G p l e R s m args below meth c nL T A B Q cells slots ws lv pc (As.reverse ++ .ref b :: st) := by
  subst hq
  obtain ⟨rfl, hA⟩ := rw_
  intro H locs ls hP hD hS hl
  have hR := cx.2.2.2.2.2.2.1
  subst hR
  exact g_afterW (w := 3) hA hP hD hS hl hp (va_runVN ⟨cx.1, cx.2.1, cx.2.2.1, cx.2.2.2.1, cx.2.2.2.2.1⟩ (hM H.size) ⟨va_cnB n cx.2.2.2.2.1 (lw_meth hy.2.2.2.1) rfl hrm.2.2.2.2.1 hrm.2.2.2.2.2 (cx.2.2.2.2.2.1.2.1 _ hlink rfl) (cx.2.2.2.2.1 _ hy.2.2.1) hy.2.2.2.2 ⟨hrm.1, hrm.2.1⟩, cx.2.2.2.2.1 _ hy.1, cx.2.2.2.2.1 _ hy.2.1⟩ ⟨g_blindW, va_recv cx.2.2.2.2.2.1.1 hP hc he, fun U hU hW => ⟨rfl, g_preW cx hST hA hP hD hS hp U hU hW⟩⟩ rfl hn hl.1.1 rfl (lv_room hro) d ⟨hrm.2.2.1, hrm.2.2.2.1⟩) kk
/-! ===== new arrays of references, copying ===== -/
theorem g_anew (cx : g_cx p l R s m args c nL T cc own rm) (rw_ : g_rw s A B) {C : String} {index : Nat} (hcl : Cond.classLink own index C ∈ lw_all) (hover : FieldType.object C ∈ [FieldType.object "java/lang/Object", .array .int, .array .byte, .array (.array .byte)]) (t0 : Nat) {cA0 : ClassId} (ht : (TYs T.2.1)[t0]? = some (cA0, .object C)) {n : Int} (hn : 0 ≤ n ∧ n < 100000000) (hc1 : cells + 1 ≤ rm.cells) (hs1 : slots + n.toNat ≤ rm.slots) (d : decode cc pc = .ok (.anewarray index, 3)) (hq : pc + 3 = q) (kk : ∀ a : Nat, G p l e R s m args below meth c nL T A B Q (cells + 1) (slots + n.toNat) (ws ++ [(a, .inl (cA0, n.toNat, .inr (.inr (.inr (.inr (fun _ => none))))))]) lv q (.ref a :: st)) : G p l e R s m args below meth c nL T A B Q cells slots ws lv pc (.int (iN n) :: st) := by
  subst hq
  obtain ⟨rfl, hA⟩ := rw_
  intro H locs ls hP hD hS hl
  have hR := cx.2.2.2.2.2.2.1
  subst hR
  have h0 : ¬ iN n < 0 := by
    show ¬ iN n < iN 0
    rw [iN_lt (by omega) (by omega) (by omega) (by omega)]
    omega
  refine va_newq cx.1 cx.2.1 cx.2.2.2.1 (cx.2.2.2.2.1 _ hcl) (va_AO.of (A := #[]) (cx.2.2.2.2.2.1.2.2.2 _ hover)) cx.2.2.2.2.2.1.1 hP hD hS hA h0 (iN_cl hn.1 (by omega)) (by omega) hc1 hs1 d (fun a cA H1 hK1 hP1 hD1 hS1 => ?_)
  have hcA : cA = cA0 := by
    obtain ⟨-, -, -, -, -, h1⟩ := (cx.2.2.2.2.2.1.1.2 t0 _ ht).2
    obtain ⟨-, -, -, -, -, h2⟩ := (hK1.2 (TYs T.2.1).length (cA, .object C) (by rw [List.getElem?_append_right (Nat.le_refl _), Nat.sub_self]; rfl)).2
    exact Option.some.inj (h2.symm.trans h1)
  subst hcA
  exact kk a H1 locs ls hP1 hD1 hS1 hl
theorem iN_nl {n : Int} (h : 0 ≤ n ∧ n < 2147483648) : ¬ iN n < 0 := by
  show ¬ iN n < iN 0
  rw [iN_lt (by omega) (by omega) (by omega) (by omega)]
  omega
theorem g_copyQ (cx : g_cx p l R s m args c nL T cc own rm) (rw_ : g_rw s A B) {index : Nat} (hlink : Cond.methodLink own index arraycopyName ∈ lw_all) (q0 t0 ci : Nat) {a n : Nat} {cA : ClassId} {E C : String} {Tt : u_T} {N : Nat} {f : Nat → Option Nat} (hn : n < 2147483648) (he : ws[q0]? = some (a, .inl (cA, n, .inr (.inr (.inr (.inr f)))))) (ht : (TYs T.2.1)[t0]? = some (cA, .object E)) (hca : Cond.castable C E ∈ lw_tbl) (hc : CL[ci]? = some (C, Tt, N)) {sp dp k : Int} (h1 : 0 ≤ sp) (h2 : 0 ≤ dp) (h3 : 0 ≤ k) (h4 : sp + k ≤ n) (h5 : dp + k ≤ n) (hel : ∀ i, i < k.toNat → ∀ y, f (sp.toNat + i) = some y → ∃ fs, (y, .inr (ci, fs)) ∈ ws) (hf : 1 ≤ rm.frames) (hlo : (st.map fun v => v.category).sum + (nativeFrameWords "java/lang/System" "arraycopy" 5 + 11) ≤ rm.locals) {ws2 : va_W} (hw : ws.set q0 (a, .inl (cA, n, .inr (.inr (.inr (.inr (va_cpy f f sp.toNat dp.toNat k.toNat)))))) = ws2) (d : decode cc pc = .ok (.invokestatic index, 3)) (hq : pc + 3 = q) (kk : G p l e R s m args below meth c nL T A B Q cells slots ws2 lv q st) : G p l e R s m args below meth c nL T A B Q cells slots ws lv pc (.int (iN k) :: .int (iN dp) :: .ref a :: .int (iN sp) :: .ref a :: st) := by
  subst hq
  subst hw
  obtain ⟨rfl, hA⟩ := rw_
  intro H locs ls hP hD hS hl
  have hR := cx.2.2.2.2.2.2.1
  subst hR
  have e1 := iN_cl h1 (by omega : sp < 2147483648)
  have e2 := iN_cl h2 (by omega : dp < 2147483648)
  have e3 := iN_cl h3 (by omega : k < 2147483648)
  refine va_copyq (C := C) cx.1 cx.2.1 (by rw [cx.2.2.1]; exact hl.1.1.symm) cx.2.2.2.1 (cx.2.2.2.2.1 _ hlink) (cx.2.2.2.2.1 _ q362) (cx.2.2.2.2.1 _ q361) (cx.2.2.2.2.1 _ q70) cx.2.2.2.2.2.1.1 hP hD hS q0 q0 t0 t0 he he ht ht (iN_nl ⟨h1, by omega⟩) (iN_nl ⟨h2, by omega⟩) (iN_nl ⟨h3, by omega⟩) (by rw [e1, e3]; omega) (by rw [e2, e3]; omega) ?_ ?_ hf hlo d ?_
  · intro i hi y hy
    rw [e3] at hi
    rw [e1] at hy
    obtain ⟨fs, hm⟩ := hel i hi y hy
    obtain ⟨q1, hq1⟩ := List.getElem?_of_mem hm
    exact va_recv cx.2.2.2.2.2.1.1 hP hc hq1
  · intro comp c0 g1 g2
    obtain ⟨c1, t1, f1, f2, f3⟩ := Cond.castable_spec (va_Nw.use (A := args) rfl (cx.2.2.2.2.2.1.2.1 _ hca rfl))
    cases g1.symm.trans f2
    cases g2.symm.trans f1
    exact f3
  · rw [e1, e2, e3]
    exact fun H1 locs1 hP1 hD1 hS1 => kk H1 locs1 ls hP1 hD1 hS1 hl
theorem fits_short {x : Int} (h : -32768 ≤ x ∧ x < 32768) : fits .short (.int (iN x)) = true := by
  show (decide ((-32768 : Int32) ≤ iN x) && decide (iN x ≤ (32767 : Int32))) = true
  rw [show (-32768 : Int32) = iN (-32768) by decide, show (32767 : Int32) = iN 32767 by decide, Bool.and_eq_true]
  exact ⟨decide_eq_true ((iN_le (by omega) (by omega) (by omega) (by omega)).mpr h.1), decide_eq_true ((iN_le (by omega) (by omega) (by omega) (by omega)).mpr (by omega))⟩
theorem g_copyS (cx : g_cx p l R s m args c nL T cc own rm) (rw_ : g_rw s A B) {index : Nat} (hlink : Cond.methodLink own index arraycopyName ∈ lw_all) (q0 q1 : Nat) {a a0 n n1 : Nat} {f g : Nat → Int} (hn : n < 2147483648) (hn1 : n1 < 2147483648) (he : ws[q0]? = some (a0, .inl (T.2.1 2, n, .inl (zA f)))) (he1 : ws[q1]? = some (a, .inl (T.2.1 2, n1, .inl (zA g)))) {sp dp k : Int} (h1 : 0 ≤ sp) (h2 : 0 ≤ dp) (h3 : 0 ≤ k) (h4 : sp + k ≤ n) (h5 : dp + k ≤ n1) (hel : ∀ i, i < n → -32768 ≤ f i ∧ f i < 32768) (hf : 1 ≤ rm.frames) (hlo : (st.map fun v => v.category).sum + (nativeFrameWords "java/lang/System" "arraycopy" 5 + 11) ≤ rm.locals) {ws2 : va_W} (hw : ws.set q1 (a, .inl (T.2.1 2, n1, .inl (zA (va_cpy f g sp.toNat dp.toNat k.toNat)))) = ws2) (d : decode cc pc = .ok (.invokestatic index, 3)) (hq : pc + 3 = q) (kk : G p l e R s m args below meth c nL T A B Q cells slots ws2 lv q st) : G p l e R s m args below meth c nL T A B Q cells slots ws lv pc (.int (iN k) :: .int (iN dp) :: .ref a :: .int (iN sp) :: .ref a0 :: st) := by
  subst hq
  subst hw
  obtain ⟨rfl, hA⟩ := rw_
  intro H locs ls hP hD hS hl
  have hR := cx.2.2.2.2.2.2.1
  subst hR
  have e1 := iN_cl h1 (by omega : sp < 2147483648)
  have e2 := iN_cl h2 (by omega : dp < 2147483648)
  have e3 := iN_cl h3 (by omega : k < 2147483648)
  refine va_copyi (ty := .short) cx.1 cx.2.1 (by rw [cx.2.2.1]; exact hl.1.1.symm) cx.2.2.2.1 (cx.2.2.2.2.1 _ hlink) (cx.2.2.2.2.1 _ q362) (cx.2.2.2.2.1 _ q361) (cx.2.2.2.2.1 _ q70) cx.2.2.2.2.2.1.1 hP hD hS q0 q1 2 2 he he1 rfl rfl rfl (iN_nl ⟨h1, by omega⟩) (iN_nl ⟨h2, by omega⟩) (iN_nl ⟨h3, by omega⟩) (by rw [e1, e3]; omega) (by rw [e2, e3]; omega) ?_ hf hlo d ?_
  · intro i hi
    rw [e3] at hi
    rw [e1]
    exact fits_short (hel _ (by omega))
  · rw [e1, e2, e3]
    have ec : va_cpy (zA f) (zA g) sp.toNat dp.toNat k.toNat = zA (va_cpy f g sp.toNat dp.toNat k.toNat) := by
      funext j
      unfold zA va_cpy
      split <;> rfl
    rw [ec]
    exact fun H1 locs1 hP1 hD1 hS1 => kk H1 locs1 ls hP1 hD1 hS1 hl
theorem g_acmp_eqT (cx : g_cx p l R s m args c nL T cc own rm) {x : Nat} {off : Int} {tg : Nat} (d : decode cc pc = .ok (.if_acmp .eq off, 3)) (ht : (pc : Int) + off = (tg : Int)) (kk : G p l e R s m args below meth c nL T A B Q cells slots ws lv tg st) : G p l e R s m args below meth c nL T A B Q cells slots ws lv pc (.ref x :: .ref x :: st) :=
  fun H locs ls hP hD hS hl => lv_acmp_eq (rx := some x) (ry := some x) cx.1 cx.2.1 d ht (fun _ => kk H locs ls hP hD hS hl) (fun h => absurd rfl h)
theorem g_minC : Cond.code Lib.Math.min.name Lib.Math.min.code 2 (some .int) ∈ lw_all := q238
theorem g_maxC : Cond.code Lib.Math.max.name Lib.Math.max.code 2 (some .int) ∈ lw_all := q419
theorem g_mmin (cx : g_cx p l R s m args c nL T cc own rm) {index : Nat} {x y : Int} (hlink : Cond.methodLink own index Lib.Math.min.name ∈ lw_all) (hx : -2147483648 ≤ x ∧ x < 2147483648) (hy : -2147483648 ≤ y ∧ y < 2147483648) (hf : 1 ≤ rm.frames) (hlo : (st.map fun v => v.category).sum + 13 ≤ rm.locals) (hc : cells ≤ rm.cells) (hs : slots ≤ rm.slots) (d : decode cc pc = .ok (.invokestatic index, 3)) (hq : pc + 3 = q) (kk : G p l e R s m args below meth c nL T A B Q cells slots ws lv q (.int (iN (min x y)) :: st)) : G p l e R s m args below meth c nL T A B Q cells slots ws lv pc (.int (iN y) :: .int (iN x) :: st) := by
  subst hq
  intro H locs ls hP hD hS hl
  have hR := cx.2.2.2.2.2.2.1
  subst hR
  refine va_mmin cx.1 cx.2.1 (by rw [cx.2.2.1]; exact hl.1.1.symm) cx.2.2.2.1 (cx.2.2.2.2.1 _ hlink) (cx.2.2.2.2.1 _ q237) (cx.2.2.2.2.1 _ q68) (cx.2.2.2.2.1 _ g_minC) hf hlo hc hs d ?_
  rw [show (if iN y < iN x then iN y else iN x) = iN (min x y) by
    by_cases h : y < x
    · rw [if_pos ((iN_lt hy.1 hy.2 hx.1 hx.2).mpr h), show min x y = y by omega]
    · rw [if_neg (fun z => h ((iN_lt hy.1 hy.2 hx.1 hx.2).mp z)), show min x y = x by omega]]
  exact kk H locs ls hP hD hS hl
theorem g_mmax (cx : g_cx p l R s m args c nL T cc own rm) {index : Nat} {x y : Int} (hlink : Cond.methodLink own index Lib.Math.max.name ∈ lw_all) (hx : -2147483648 ≤ x ∧ x < 2147483648) (hy : -2147483648 ≤ y ∧ y < 2147483648) (hf : 1 ≤ rm.frames) (hlo : (st.map fun v => v.category).sum + 13 ≤ rm.locals) (hc : cells ≤ rm.cells) (hs : slots ≤ rm.slots) (d : decode cc pc = .ok (.invokestatic index, 3)) (hq : pc + 3 = q) (kk : G p l e R s m args below meth c nL T A B Q cells slots ws lv q (.int (iN (max x y)) :: st)) : G p l e R s m args below meth c nL T A B Q cells slots ws lv pc (.int (iN y) :: .int (iN x) :: st) := by
  subst hq
  intro H locs ls hP hD hS hl
  have hR := cx.2.2.2.2.2.2.1
  subst hR
  refine va_mmax cx.1 cx.2.1 (by rw [cx.2.2.1]; exact hl.1.1.symm) cx.2.2.2.1 (cx.2.2.2.2.1 _ hlink) (cx.2.2.2.2.1 _ q418) (cx.2.2.2.2.1 _ q68) (cx.2.2.2.2.1 _ g_maxC) hf hlo hc hs d ?_
  rw [show (if iN x < iN y then iN y else iN x) = iN (max x y) by
    by_cases h : x < y
    · rw [if_pos ((iN_lt hx.1 hx.2 hy.1 hy.2).mpr h), show max x y = y by omega]
    · rw [if_neg (fun z => h ((iN_lt hx.1 hx.2 hy.1 hy.2).mp z)), show max x y = x by omega]]
  exact kk H locs ls hP hD hS hl
theorem g_ldc_w (cx : g_cx p l R s m args c nL T cc own rm) {index : Nat} {v : Int32} (d : decode cc pc = .ok (.ldc_w index, 3)) (hc : Cond.constant own index v ∈ lw_all) (hq : pc + 3 = q) (kk : G p l e R s m args below meth c nL T A B Q cells slots ws lv q (.int v :: st)) : G p l e R s m args below meth c nL T A B Q cells slots ws lv pc st := by
  subst hq
  exact fun H locs ls hP hD hS hl => lv_ldcw cx.1 cx.2.1 cx.2.2.2.1 (cx.2.2.2.2.1 _ hc) d (kk H locs ls hP hD hS hl)
theorem g_i2sZ (cx : g_cx p l R s m args c nL T cc own rm) {x : Int} (h : -32768 ≤ x ∧ x < 32768) (d : decode cc pc = .ok (.i2s, 1)) (hq : pc + 1 = q) (kk : G p l e R s m args below meth c nL T A B Q cells slots ws lv q (.int (iN x) :: st)) : G p l e R s m args below meth c nL T A B Q cells slots ws lv pc (.int (iN x) :: st) := g_i2s cx d hq (by
  rw [show (iN x).toInt16.toInt32 = iN x by
    rw [← Int32.toInt_inj, Int16.toInt_toInt32]
    show (Int16.ofInt (iN x).toInt).toInt = _
    rw [iN_toInt (by omega) (by omega), Int16.toInt_ofInt_of_le (by omega) (by omega)]]
  exact kk)
theorem g_i2bZ (cx : g_cx p l R s m args c nL T cc own rm) {x : Int} (h : -128 ≤ x ∧ x < 128) (d : decode cc pc = .ok (.i2b, 1)) (hq : pc + 1 = q) (kk : G p l e R s m args below meth c nL T A B Q cells slots ws lv q (.int (iN x) :: st)) : G p l e R s m args below meth c nL T A B Q cells slots ws lv pc (.int (iN x) :: st) := g_i2b cx d hq (by
  rw [show (iN x).toInt8.toInt32 = iN x by
    rw [← Int32.toInt_inj, Int8.toInt_toInt32]
    show (Int8.ofInt (iN x).toInt).toInt = _
    rw [iN_toInt (by omega) (by omega), Int8.toInt_ofInt_of_le (by omega) (by omega)]]
  exact kk)
theorem g_rmO {rc rm : Room} {nL mc ms cells slots : Nat} (h1 : rc.frames + 1 ≤ rm.frames) (h2 : 8 + (nL + 11) + rc.locals ≤ rm.locals) (h3 : cells + mc ≤ rm.cells) (h4 : slots + ms ≤ rm.slots) (h5 : rc.cells = mc) (h6 : rc.slots = ms) : g_rm rc rm nL mc ms cells slots := ⟨h1, h2, h3, h4, h5, h6⟩
end GK2
