/-! shelves: rows emptied, copied -/
/-- k zeros from b on -/
def zr (f : Nat → Int32) (b k : Nat) : Nat → Int32 := fun j => if b ≤ j ∧ j < b + k then 0 else f j
theorem zr_0 (f : Nat → Int32) (b : Nat) : zr f b 0 = f := funext fun j => if_neg (by omega)
theorem zr_s (f : Nat → Int32) (b k : Nat) : upd (zr f b k) (b + k) 0 = zr f b (k + 1) := by
  funext j
  unfold upd zr
  by_cases h : j = b + k
  · rw [if_pos h, if_pos (by omega)]
  · by_cases h2 : b ≤ j ∧ j < b + k
    · rw [if_neg h, if_pos h2, if_pos (by omega)]
    · rw [if_neg h, if_neg h2, if_neg (by omega)]
theorem cp_0 (f g : Nat → Int32) (sp dp : Nat) : va_cpy f g sp dp 0 = g := funext fun j => if_neg (by omega)
theorem cp_s (f g : Nat → Int32) (sp dp k : Nat) : upd (va_cpy f g sp dp k) (dp + k) (f (sp + k)) = va_cpy f g sp dp (k + 1) := by
  funext j
  unfold upd va_cpy
  by_cases h : j = dp + k
  · subst h; rw [if_pos rfl, if_pos (by omega)]; congr 1; omega
  · by_cases h2 : dp ≤ j ∧ j < dp + k
    · rw [if_neg h, if_pos h2, if_pos (by omega)]
    · rw [if_neg h, if_neg h2, if_neg (by omega)]
def sp_copyr (hol sor siz : Nat → Int32) (d i e0 j n : Int32) : Int32 := if (0 ≤ d ∧ d ≤ 7) ∧ (0 ≤ e0 ∧ e0 ≤ 7) then if hol d.toNatClampNeg = 0 ∨ hol e0.toNatClampNeg = 0 then -11 else if hol d.toNatClampNeg = 1 ∨ hol e0.toNatClampNeg = 1 ∨ ¬ sor d.toNatClampNeg = sor e0.toNatClampNeg then -12 else if n < 0 ∨ i < 0 ∨ j < 0 ∨ siz d.toNatClampNeg - i < n ∨ siz e0.toNatClampNeg - j < n then -13 else n else -1
/-- whether copy() copies -/
def sp_copyok (hol sor siz : Nat → Int32) (d i e0 j n : Int32) : Prop := (0 ≤ d ∧ d ≤ 7) ∧ (0 ≤ e0 ∧ e0 ≤ 7) ∧ ¬ (hol d.toNatClampNeg = 0 ∨ hol e0.toNatClampNeg = 0) ∧ ¬ (hol d.toNatClampNeg = 1 ∨ hol e0.toNatClampNeg = 1 ∨ ¬ sor d.toNatClampNeg = sor e0.toNatClampNeg) ∧ ¬ (n < 0 ∨ i < 0 ∨ j < 0 ∨ siz d.toNatClampNeg - i < n ∨ siz e0.toNatClampNeg - j < n)
def sp_skOf (kd f : Int32) : Int32 := if kd = 0 then 1 else if kd = 1 then 1 + f else if kd = 2 then 5 else if kd = 3 then 5 * f else if kd = 4 then 15 else if kd = 5 then 3 else if kd = 6 then 0 else 5 * f + 9
def sp_skill (hol kio fio : Nat → Int32) (d : Int32) : Int32 := if 0 ≤ d ∧ d ≤ 7 then if hol d.toNatClampNeg = 0 then -11 else if hol d.toNatClampNeg = 2 then -12 else sp_skOf (kio d.toNatClampNeg) (fio d.toNatClampNeg) else -1
def sp_tosOf (nu kd f : Int32) : Int32 := if kd = 6 ∨ f = 0 then -15 else if kd = 4 then 100 + nu else if kd = 7 then 200 + sp_skOf kd f else nu
def sp_toss (hol nuo kio fio : Nat → Int32) (d : Int32) : Int32 := if 0 ≤ d ∧ d ≤ 7 then if hol d.toNatClampNeg = 1 then sp_tosOf (nuo d.toNatClampNeg) (kio d.toNatClampNeg) (fio d.toNatClampNeg) else if hol d.toNatClampNeg = 0 then -11 else -12 else -1
/-- a difference of a small natural and a small int, not less than n -/
theorem le_diff {x n : Int32} {z : Nat} (hz : z ≤ 100) (hn0 : ¬ n < 0) (hx0 : ¬ x < 0) (h : ¬ nI z - x < n) : ∃ (i j : Nat), i + j ≤ z ∧ x = nI i ∧ n = nI j := by
  obtain ⟨i, hi, rfl⟩ := nI_of hx0
  obtain ⟨j, hj, rfl⟩ := nI_of hn0
  refine ⟨i, j, ?_, rfl, rfl⟩
  rw [Int32.lt_iff_toInt_lt, Int32.toInt_sub, nI_toInt (by omega), nI_toInt hi, nI_toInt hj, Int.bmod_eq_of_le (by omega) (by omega)] at h
  omega
theorem cp_t {f g : Nat → Int32} {sp k : Nat} : upd (va_cpy f g sp 0 k) k (f (sp + k)) = va_cpy f g sp 0 (k + 1) := by
  have h := cp_s f g sp 0 k
  rw [Nat.zero_add] at h
  exact h
theorem cp_u {f g : Nat → Int32} {sp n k : Nat} (h : k < n) : va_cpy f g sp 0 n k = f (sp + k) := by
  unfold va_cpy
  rw [if_pos (by omega)]
  rfl
theorem hdS_X5_row : yX5_row.cls ≠ "java/lang/invoke/MethodHandle" ∧ yX5_row.cls ≠ "java/lang/invoke/VarHandle" ∧ (parseMethodDescriptor yX5_row.desc).map (fun d => d.parameters.length) = some 3 := by decide +kernel
theorem hdV_X5_row : yX5_row.cls = RX5 ∧ yX5_row.cls ≠ "java/lang/invoke/MethodHandle" ∧ yX5_row.cls ≠ "java/lang/invoke/VarHandle" ∧ (parseMethodDescriptor yX5_row.desc).map (fun d => d.parameters.length) = some 3 := ⟨rfl, hdS_X5_row⟩
set_option maxHeartbeats 4000000 in
set_option maxRecDepth 100000 in
theorem met_X5_row {l : Launch} {dC : Nat → ClassId} {dI : Nat → Nat → Nat} {dA : Nat → ClassId} (sz : Nat) (m0 : Nat) (a : Nat → Nat) (v : Nat → Int32) (zn : Nat → Nat) (hol : Nat → Int32) (sor : Nat → Int32) (itm : Nat → Int32) (d : Int32) (so : Int32) (n : Int32)  : Met l yX5_row (ws_ yX5_row cX5_row 5 (some .int)) ({ frames := 4, cells := 0, slots := 0, locals := 192 } : Room) (RwP dC dI dA [.ref m0, .int d, .int so, .int n] [(m0, .inr (4, moF a v)), ((a 32), .inl (dA 0, 8, .inl hol)), ((a 33), .inl (dA 0, 8, .inl sor)), ((a 34), .inl (dA 0, 8, .inl (nF zn))), ((a 35), .inl (dA 0, 800, .inl itm))] sz) (va_Qi (fun (r : Int32) (u : (Nat → Int32) × (Nat → Int32) × (Nat → Int32) × (Nat → Nat)) => r = sp_rowr d so n ∧ (r = 0 → u.1 = upd hol d.toNatClampNeg 2 ∧ u.2.1 = upd sor d.toNatClampNeg so ∧ u.2.2.2 = va_up zn d.toNatClampNeg n.toNatClampNeg ∧ u.2.2.1 = zr itm (100 * d.toNatClampNeg) 100) ∧ (¬ r = 0 → u.1 = hol ∧ u.2.1 = sor ∧ u.2.2.2 = zn ∧ u.2.2.1 = itm)) (RwB dC dI (va_A [(m0, .inr (4, moF a v)), ((a 32), .inl (dA 0, 8, .inl hol)), ((a 33), .inl (dA 0, 8, .inl sor)), ((a 34), .inl (dA 0, 8, .inl (nF zn))), ((a 35), .inl (dA 0, 800, .inl itm))] sz) (fun (u : (Nat → Int32) × (Nat → Int32) × (Nat → Int32) × (Nat → Nat)) => [(m0, .inr (4, moF a v)), ((a 32), .inl (dA 0, 8, .inl u.1)), ((a 33), .inl (dA 0, 8, .inl u.2.1)), ((a 34), .inl (dA 0, 8, .inl (nF u.2.2.2))), ((a 35), .inl (dA 0, 800, .inl u.2.2.1))])) (va_A [(m0, .inr (4, moF a v)), ((a 32), .inl (dA 0, 8, .inl hol)), ((a 33), .inl (dA 0, 8, .inl sor)), ((a 34), .inl (dA 0, 8, .inl (nF zn))), ((a 35), .inl (dA 0, 800, .inl itm))] sz)) 0 0 (va_A [(m0, .inr (4, moF a v)), ((a 32), .inl (dA 0, 8, .inl hol)), ((a 33), .inl (dA 0, 8, .inl sor)), ((a 34), .inl (dA 0, 8, .inl (nF zn))), ((a 35), .inl (dA 0, 800, .inl itm))] sz) := by
  refine ofRw (cc := cX5_row) (maxL := 5) (ret := (some .int)) (Qf := fun A => va_Qi (fun (r : Int32) (u : (Nat → Int32) × (Nat → Int32) × (Nat → Int32) × (Nat → Nat)) => r = sp_rowr d so n ∧ (r = 0 → u.1 = upd hol d.toNatClampNeg 2 ∧ u.2.1 = upd sor d.toNatClampNeg so ∧ u.2.2.2 = va_up zn d.toNatClampNeg n.toNatClampNeg ∧ u.2.2.1 = zr itm (100 * d.toNatClampNeg) 100) ∧ (¬ r = 0 → u.1 = hol ∧ u.2.1 = sor ∧ u.2.2.2 = zn ∧ u.2.2.1 = itm)) (RwB dC dI A (fun (u : (Nat → Int32) × (Nat → Int32) × (Nat → Int32) × (Nat → Nat)) => [(m0, .inr (4, moF a v)), ((a 32), .inl (dA 0, 8, .inl u.1)), ((a 33), .inl (dA 0, 8, .inl u.2.1)), ((a 34), .inl (dA 0, 8, .inl (nF u.2.2.2))), ((a 35), .inl (dA 0, 800, .inl u.2.2.1))])) A) (by decide) rfl (fun w h => List.mem_cons_of_mem _ h) (Nat.le_of_ble_eq_true rfl) ?_
  intro p e s m below meth c ls A hx hb hr hlocks hml hts hown hP hK hD hA hnm hsz hl
  have hS : va_S A s.heap s.heap [] := va_S.rf
  obtain ⟨H, hHe⟩ : ∃ H, H = s.heap := ⟨_, rfl⟩
  obtain ⟨locs, hlo⟩ : ∃ z : List Loc, z = [] := ⟨_, rfl⟩
  have hS : va_S A s.heap H locs := by rw [hHe, hlo]; exact hS
  suffices K0 : W p l e _ s m _ below meth c H locs 0 0 _ _ by rw [hHe, hlo] at K0; exact K0
  rw [← hHe] at hP
  have hown : s.vm.findClass RX5 = some m.cls := hown
  have hl : lv_has ls 5 [(0, .ref m0), (1, .int d), (2, .int so), (3, .int n)] := hl
  refine lv_iload_n hx hb dX5_row_0 rfl (lv_at hl 1 rfl) ?_
  refine lv_iconst (v := 0) hx hb dX5_row_1 (by decide) ?_
  refine lv_bipush (v := 7) hx hb dX5_row_2 (by decide) ?_
  refine ro_S (rest := []) (As := [.int d, .int 0, .int 7]) (wc := []) ⟨hx, hb, hml, hown, hts⟩ (met_X5_isIn d 0 7) (va_cwS 3 hts (lw_S q1234 q1235 q46 q1236) rfl rfl rfl hdS_X5_isIn ⟨Nat.le_of_ble_eq_true rfl, Nat.le_of_ble_eq_true rfl⟩) hK hP [] rfl rfl hl.1 rfl (Nat.le_of_ble_eq_true rfl) dX5_row_4 ⟨Nat.le_of_ble_eq_true rfl, Nat.le_of_ble_eq_true rfl⟩ (fun r_4 h_4 => ?_)
  obtain rfl : r_4 = bI (0 ≤ d ∧ d ≤ 7) := h_4
  refine lv_if_eq (tgt := 25) hx hb dX5_row_7 (by decide) (fun c_7 => ?_) (fun c_7 => ?_)
  · skip
    have c_7 := bI_eq0 (P := 0 ≤ d ∧ d ≤ 7) rfl c_7
    refine lv_iconst (v := (-1)) hx hb dX5_row_25 (by decide) ?_
    refine rt_i hx hb hr hlocks dX5_row_26 hP hD hS (Nat.le_of_ble_eq_true rfl) (Nat.le_of_ble_eq_true rfl) (hol, sor, itm, zn) [0, 1, 2, 3, 4] rfl (by decide) ?_
    clear hl hP hD hK hts hS
    grind [sp_rowr]
  · skip
    have c_7 := bI_ne0 (P := 0 ≤ d ∧ d ≤ 7) rfl c_7
    refine lv_iload_n hx hb dX5_row_10 rfl (lv_at hl 2 rfl) ?_
    refine lv_iconst (v := 0) hx hb dX5_row_11 (by decide) ?_
    refine lv_iconst (v := 2) hx hb dX5_row_12 (by decide) ?_
    refine ro_S (rest := []) (As := [.int so, .int 0, .int 2]) (wc := []) ⟨hx, hb, hml, hown, hts⟩ (met_X5_isIn so 0 2) (va_cwS 3 hts (lw_S q1234 q1235 q46 q1236) rfl rfl rfl hdS_X5_isIn ⟨Nat.le_of_ble_eq_true rfl, Nat.le_of_ble_eq_true rfl⟩) hK hP [] rfl rfl hl.1 rfl (Nat.le_of_ble_eq_true rfl) dX5_row_13 ⟨Nat.le_of_ble_eq_true rfl, Nat.le_of_ble_eq_true rfl⟩ (fun r_13 h_13 => ?_)
    obtain rfl : r_13 = bI (0 ≤ so ∧ so ≤ 2) := h_13
    refine lv_if_eq (tgt := 25) hx hb dX5_row_16 (by decide) (fun c_16 => ?_) (fun c_16 => ?_)
    · skip
      have c_16 := bI_eq0 (P := 0 ≤ so ∧ so ≤ 2) rfl c_16
      refine lv_iconst (v := (-1)) hx hb dX5_row_25 (by decide) ?_
      refine rt_i hx hb hr hlocks dX5_row_26 hP hD hS (Nat.le_of_ble_eq_true rfl) (Nat.le_of_ble_eq_true rfl) (hol, sor, itm, zn) [0, 1, 2, 3, 4] rfl (by decide) ?_
      clear hl hP hD hK hts hS
      grind [sp_rowr]
    · skip
      have c_16 := bI_ne0 (P := 0 ≤ so ∧ so ≤ 2) rfl c_16
      refine lv_iload_n hx hb dX5_row_19 rfl (lv_at hl 3 rfl) ?_
      refine lv_bipush (v := 100) hx hb dX5_row_20 (by decide) ?_
      refine lv_icmp_le (tgt := 27) hx hb dX5_row_22 (by decide) (fun c_22 => ?_) (fun c_22 => ?_)
      · skip
        refine lv_iload_n hx hb dX5_row_27 rfl (lv_at hl 3 rfl) ?_
        refine lv_if_ge (tgt := 34) hx hb dX5_row_28 (by decide) (fun c_28 => ?_) (fun c_28 => ?_)
        · skip
          obtain ⟨dd, hdd, rfl⟩ := ix_lit 8 (by decide) (by decide) c_7
          have e_dd : (nI dd).toNatClampNeg = dd := nI_clamp (by omega)
          obtain ⟨nn, hnn, rfl⟩ := ix_lit 101 (by decide) (by decide) ⟨c_28, c_22⟩
          have e_nn : (nI nn).toNatClampNeg = nn := nI_clamp (by omega)
          refine lv_aload_n hx hb dX5_row_34 rfl (lv_at hl 0 rfl) ?_
          refine va_get (D := (dC, dI)) (ci := 4) (v := .ref (a 32)) (C := RX5) (T := TX5) (N := 41) hx hb hts in_X5 hown hK.1 hP 0 rfl rfl 32 (by decide) (hts _ q1124) (fun _ h9 => h9) rfl dX5_row_35 ?_
          refine lv_iload_n hx hb dX5_row_38 rfl (lv_at hl 1 rfl) ?_
          refine lv_iconst (v := 2) hx hb dX5_row_39 (by decide) ?_
          refine va_iast hx hb hK.1 hP hD hS 1 0 rfl rfl (vp_in_nI (by omega) (by omega)) dX5_row_40 (fun H locs hP hD hS => ?_)
          rw [nI_clamp (n := dd) (by omega)] at hP hD
          have hP : va_P (dC, dI) vwCl [(m0, .inr (4, moF a v)), ((a 32), .inl (dA 0, 8, .inl (upd hol dd 2))), ((a 33), .inl (dA 0, 8, .inl sor)), ((a 34), .inl (dA 0, 8, .inl (nF zn))), ((a 35), .inl (dA 0, 800, .inl itm))] H := hP
          have hD : va_D A [(m0, .inr (4, moF a v)), ((a 32), .inl (dA 0, 8, .inl (upd hol dd 2))), ((a 33), .inl (dA 0, 8, .inl sor)), ((a 34), .inl (dA 0, 8, .inl (nF zn))), ((a 35), .inl (dA 0, 800, .inl itm))] := hD
          refine lv_aload_n hx hb dX5_row_41 rfl (lv_at hl 0 rfl) ?_
          refine va_get (D := (dC, dI)) (ci := 4) (v := .ref (a 33)) (C := RX5) (T := TX5) (N := 41) hx hb hts in_X5 hown hK.1 hP 0 rfl rfl 33 (by decide) (hts _ q1125) (fun _ h9 => h9) rfl dX5_row_42 ?_
          refine lv_iload_n hx hb dX5_row_45 rfl (lv_at hl 1 rfl) ?_
          refine lv_iload_n hx hb dX5_row_46 rfl (lv_at hl 2 rfl) ?_
          refine va_iast hx hb hK.1 hP hD hS 2 0 rfl rfl (vp_in_nI (by omega) (by omega)) dX5_row_47 (fun H locs hP hD hS => ?_)
          rw [nI_clamp (n := dd) (by omega)] at hP hD
          have hP : va_P (dC, dI) vwCl [(m0, .inr (4, moF a v)), ((a 32), .inl (dA 0, 8, .inl (upd hol dd 2))), ((a 33), .inl (dA 0, 8, .inl (upd sor dd so))), ((a 34), .inl (dA 0, 8, .inl (nF zn))), ((a 35), .inl (dA 0, 800, .inl itm))] H := hP
          have hD : va_D A [(m0, .inr (4, moF a v)), ((a 32), .inl (dA 0, 8, .inl (upd hol dd 2))), ((a 33), .inl (dA 0, 8, .inl (upd sor dd so))), ((a 34), .inl (dA 0, 8, .inl (nF zn))), ((a 35), .inl (dA 0, 800, .inl itm))] := hD
          refine lv_aload_n hx hb dX5_row_48 rfl (lv_at hl 0 rfl) ?_
          refine va_get (D := (dC, dI)) (ci := 4) (v := .ref (a 34)) (C := RX5) (T := TX5) (N := 41) hx hb hts in_X5 hown hK.1 hP 0 rfl rfl 34 (by decide) (hts _ q1126) (fun _ h9 => h9) rfl dX5_row_49 ?_
          refine lv_iload_n hx hb dX5_row_52 rfl (lv_at hl 1 rfl) ?_
          refine lv_iload_n hx hb dX5_row_53 rfl (lv_at hl 3 rfl) ?_
          refine va_iast hx hb hK.1 hP hD hS 3 0 rfl rfl (vp_in_nI (by omega) (by omega)) dX5_row_54 (fun H locs hP hD hS => ?_)
          rw [nI_clamp (n := dd) (by omega)] at hP hD
          have hP : va_P (dC, dI) vwCl [(m0, .inr (4, moF a v)), ((a 32), .inl (dA 0, 8, .inl (upd hol dd 2))), ((a 33), .inl (dA 0, 8, .inl (upd sor dd so))), ((a 34), .inl (dA 0, 8, .inl (upd (nF zn) dd (nI nn)))), ((a 35), .inl (dA 0, 800, .inl itm))] H := hP
          have hD : va_D A [(m0, .inr (4, moF a v)), ((a 32), .inl (dA 0, 8, .inl (upd hol dd 2))), ((a 33), .inl (dA 0, 8, .inl (upd sor dd so))), ((a 34), .inl (dA 0, 8, .inl (upd (nF zn) dd (nI nn)))), ((a 35), .inl (dA 0, 800, .inl itm))] := hD
          rw [nF_up] at hP hD
          refine lv_iconst (v := 0) hx hb dX5_row_55 (by decide) ?_
          refine lv_istore (lv' := [(4, .int 0), (0, .ref m0), (1, .int (nI dd)), (2, .int so), (3, .int (nI nn))]) hx hb dX5_row_56 hl (by decide) rfl (fun ls hl => ?_)
          rw [← zr_0 itm (100 * dd)] at hP hD
          have K_58 : ∀ (fuel : Nat), ∀ (k : Nat), (k ≤ 100) → (100 < k + fuel) → ∀ (H : Heap) (locs : List Loc) (ls : Array Slot), va_P (dC, dI) vwCl [(m0, .inr (4, moF a v)), ((a 32), .inl (dA 0, 8, .inl (upd hol dd 2))), ((a 33), .inl (dA 0, 8, .inl (upd sor dd so))), ((a 34), .inl (dA 0, 8, .inl (nF (va_up zn dd nn)))), ((a 35), .inl (dA 0, 800, .inl (zr itm (100 * dd) k)))] H → va_D A [(m0, .inr (4, moF a v)), ((a 32), .inl (dA 0, 8, .inl (upd hol dd 2))), ((a 33), .inl (dA 0, 8, .inl (upd sor dd so))), ((a 34), .inl (dA 0, 8, .inl (nF (va_up zn dd nn)))), ((a 35), .inl (dA 0, 800, .inl (zr itm (100 * dd) k)))] → va_S A s.heap H locs → lv_has ls 5 [(0, .ref m0), (1, .int (nI dd)), (2, .int so), (3, .int (nI nn)), (4, .int (nI k))] → W p l e ({ frames := 4, cells := 0, slots := 0, locals := 192 } : Room) s m ([.ref m0, .int (nI dd), .int so, .int (nI nn)] : List Value).toArray below meth c H locs 0 0 (MQ below (va_Qi (fun (r : Int32) (u : (Nat → Int32) × (Nat → Int32) × (Nat → Int32) × (Nat → Nat)) => r = sp_rowr (nI dd) so (nI nn) ∧ (r = 0 → u.1 = upd hol (nI dd).toNatClampNeg 2 ∧ u.2.1 = upd sor (nI dd).toNatClampNeg so ∧ u.2.2.2 = va_up zn (nI dd).toNatClampNeg (nI nn).toNatClampNeg ∧ u.2.2.1 = zr itm (100 * (nI dd).toNatClampNeg) 100) ∧ (¬ r = 0 → u.1 = hol ∧ u.2.1 = sor ∧ u.2.2.2 = zn ∧ u.2.2.1 = itm)) (RwB dC dI A (fun (u : (Nat → Int32) × (Nat → Int32) × (Nat → Int32) × (Nat → Nat)) => [(m0, .inr (4, moF a v)), ((a 32), .inl (dA 0, 8, .inl u.1)), ((a 33), .inl (dA 0, 8, .inl u.2.1)), ((a 34), .inl (dA 0, 8, .inl (nF u.2.2.2))), ((a 35), .inl (dA 0, 800, .inl u.2.2.1))])) A) ([.ref m0, .int (nI dd), .int so, .int (nI nn)] : List Value).toArray s 0 0 A) (F0 m 58 ls []) := by
            intro fuel
            induction fuel with
            | zero =>
              intro k hk hf H locs ls hP hD hS hl
              exact absurd hf (by omega)
            | succ fuel ih_58 =>
              intro k hk hf H locs ls hP hD hS hl
              refine lv_iload hx hb dX5_row_58 (lv_at hl 4 rfl) ?_
              refine lv_bipush (v := 100) hx hb dX5_row_60 (by decide) ?_
              refine lv_icmp_ge (tgt := 84) hx hb dX5_row_62 (by decide) (fun c_62 => ?_) (fun c_62 => ?_)
              · skip
                have n_c_62 : 100 ≤ k := (nI_leI (a := 100) (b := k) (by omega) (by omega)).mp c_62
                refine lv_iconst (v := 0) hx hb dX5_row_84 (by decide) ?_
                refine rt_i hx hb hr hlocks dX5_row_85 hP hD hS (Nat.le_of_ble_eq_true rfl) (Nat.le_of_ble_eq_true rfl) (upd hol dd 2, upd sor dd so, zr itm (100 * dd) k, va_up zn dd nn) [0, 1, 2, 3, 4] rfl (by decide) ?_
                obtain rfl : k = 100 := by omega
                clear hl hP hD hK hts hS
                grind [sp_rowr]
              · skip
                have n_c_62 : ¬ 100 ≤ k := fun h9 => c_62 ((nI_leI (a := 100) (b := k) (by omega) (by omega)).mpr h9)
                refine lv_aload_n hx hb dX5_row_65 rfl (lv_at hl 0 rfl) ?_
                refine va_get (D := (dC, dI)) (ci := 4) (v := .ref (a 35)) (C := RX5) (T := TX5) (N := 41) hx hb hts in_X5 hown hK.1 hP 0 rfl rfl 35 (by decide) (hts _ q1127) (fun _ h9 => h9) rfl dX5_row_66 ?_
                refine lv_bipush (v := 100) hx hb dX5_row_69 (by decide) ?_
                refine lv_iload_n hx hb dX5_row_71 rfl (lv_at hl 1 rfl) ?_
                refine lv_imul hx hb dX5_row_72 ?_
                refine lv_iload hx hb dX5_row_73 (lv_at hl 4 rfl) ?_
                refine lv_iadd hx hb dX5_row_75 ?_
                refine lv_eqi (y := (nI (100 * dd + k))) (c100 dd k) ?_
                refine lv_iconst (v := 0) hx hb dX5_row_76 (by decide) ?_
                refine va_iast hx hb hK.1 hP hD hS 4 0 rfl rfl (vp_in_nI (by omega) (by omega)) dX5_row_77 (fun H locs hP hD hS => ?_)
                rw [nI_clamp (n := (100 * dd + k)) (by omega)] at hP hD
                have hP : va_P (dC, dI) vwCl [(m0, .inr (4, moF a v)), ((a 32), .inl (dA 0, 8, .inl (upd hol dd 2))), ((a 33), .inl (dA 0, 8, .inl (upd sor dd so))), ((a 34), .inl (dA 0, 8, .inl (nF (va_up zn dd nn)))), ((a 35), .inl (dA 0, 800, .inl (upd (zr itm (100 * dd) k) (100 * dd + k) 0)))] H := hP
                have hD : va_D A [(m0, .inr (4, moF a v)), ((a 32), .inl (dA 0, 8, .inl (upd hol dd 2))), ((a 33), .inl (dA 0, 8, .inl (upd sor dd so))), ((a 34), .inl (dA 0, 8, .inl (nF (va_up zn dd nn)))), ((a 35), .inl (dA 0, 800, .inl (upd (zr itm (100 * dd) k) (100 * dd + k) 0)))] := hD
                rw [zr_s] at hP hD
                refine lv_iinc (v := (nI (k + 1))) (lv' := [(4, .int (nI (k + 1))), (0, .ref m0), (1, .int (nI dd)), (2, .int so), (3, .int (nI nn))]) hx hb dX5_row_78 hl (k := 4) rfl (nI_1 k) (by decide) rfl (fun ls hl => ?_)
                refine lv_goto (tgt := 58) hx hb dX5_row_81 (by decide) ?_
                exact ih_58 (k + 1) (by omega) (by omega) H locs ls hP hD hS (lv_sub hl [1, 2, 3, 4, 0] rfl)
          exact K_58 101 0 (by omega) (by omega) H locs ls hP hD hS (lv_sub hl [1, 2, 3, 4, 0] rfl)
        · skip
          refine lv_bipush (v := (-14)) hx hb dX5_row_31 (by decide) ?_
          refine rt_i hx hb hr hlocks dX5_row_33 hP hD hS (Nat.le_of_ble_eq_true rfl) (Nat.le_of_ble_eq_true rfl) (hol, sor, itm, zn) [0, 1, 2, 3, 4] rfl (by decide) ?_
          clear hl hP hD hK hts hS
          grind [sp_rowr]
      · skip
        refine lv_iconst (v := (-1)) hx hb dX5_row_25 (by decide) ?_
        refine rt_i hx hb hr hlocks dX5_row_26 hP hD hS (Nat.le_of_ble_eq_true rfl) (Nat.le_of_ble_eq_true rfl) (hol, sor, itm, zn) [0, 1, 2, 3, 4] rfl (by decide) ?_
        clear hl hP hD hK hts hS
        grind [sp_rowr]
theorem hdS_X5_put : yX5_put.cls ≠ "java/lang/invoke/MethodHandle" ∧ yX5_put.cls ≠ "java/lang/invoke/VarHandle" ∧ (parseMethodDescriptor yX5_put.desc).map (fun d => d.parameters.length) = some 3 := by decide +kernel
theorem hdV_X5_put : yX5_put.cls = RX5 ∧ yX5_put.cls ≠ "java/lang/invoke/MethodHandle" ∧ yX5_put.cls ≠ "java/lang/invoke/VarHandle" ∧ (parseMethodDescriptor yX5_put.desc).map (fun d => d.parameters.length) = some 3 := ⟨rfl, hdS_X5_put⟩
set_option maxHeartbeats 4000000 in
set_option maxRecDepth 100000 in
theorem met_X5_put {l : Launch} {dC : Nat → ClassId} {dI : Nat → Nat → Nat} {dA : Nat → ClassId} (sz : Nat) (m0 : Nat) (a : Nat → Nat) (v : Nat → Int32) (zn : Nat → Nat) (hol : Nat → Int32) (sor : Nat → Int32) (itm : Nat → Int32) (d : Int32) (i : Int32) (v0 : Int32) (hz : ∀ d, d < 8 → zn d ≤ 100) : Met l yX5_put (ws_ yX5_put cX5_put 4 (some .int)) ({ frames := 4, cells := 0, slots := 0, locals := 192 } : Room) (RwP dC dI dA [.ref m0, .int d, .int i, .int v0] [(m0, .inr (4, moF a v)), ((a 32), .inl (dA 0, 8, .inl hol)), ((a 33), .inl (dA 0, 8, .inl sor)), ((a 34), .inl (dA 0, 8, .inl (nF zn))), ((a 35), .inl (dA 0, 800, .inl itm))] sz) (va_Qi (fun (r : Int32) (u : (Nat → Int32)) => r = sp_putr hol (nF zn) d i ∧ (r = 0 → u = upd itm (100 * d.toNatClampNeg + i.toNatClampNeg) (sp_nar (sor d.toNatClampNeg) v0)) ∧ (¬ r = 0 → u = itm)) (RwB dC dI (va_A [(m0, .inr (4, moF a v)), ((a 32), .inl (dA 0, 8, .inl hol)), ((a 33), .inl (dA 0, 8, .inl sor)), ((a 34), .inl (dA 0, 8, .inl (nF zn))), ((a 35), .inl (dA 0, 800, .inl itm))] sz) (fun (u : (Nat → Int32)) => [(m0, .inr (4, moF a v)), ((a 32), .inl (dA 0, 8, .inl hol)), ((a 33), .inl (dA 0, 8, .inl sor)), ((a 34), .inl (dA 0, 8, .inl (nF zn))), ((a 35), .inl (dA 0, 800, .inl u))])) (va_A [(m0, .inr (4, moF a v)), ((a 32), .inl (dA 0, 8, .inl hol)), ((a 33), .inl (dA 0, 8, .inl sor)), ((a 34), .inl (dA 0, 8, .inl (nF zn))), ((a 35), .inl (dA 0, 800, .inl itm))] sz)) 0 0 (va_A [(m0, .inr (4, moF a v)), ((a 32), .inl (dA 0, 8, .inl hol)), ((a 33), .inl (dA 0, 8, .inl sor)), ((a 34), .inl (dA 0, 8, .inl (nF zn))), ((a 35), .inl (dA 0, 800, .inl itm))] sz) := by
  refine ofRw (cc := cX5_put) (maxL := 4) (ret := (some .int)) (Qf := fun A => va_Qi (fun (r : Int32) (u : (Nat → Int32)) => r = sp_putr hol (nF zn) d i ∧ (r = 0 → u = upd itm (100 * d.toNatClampNeg + i.toNatClampNeg) (sp_nar (sor d.toNatClampNeg) v0)) ∧ (¬ r = 0 → u = itm)) (RwB dC dI A (fun (u : (Nat → Int32)) => [(m0, .inr (4, moF a v)), ((a 32), .inl (dA 0, 8, .inl hol)), ((a 33), .inl (dA 0, 8, .inl sor)), ((a 34), .inl (dA 0, 8, .inl (nF zn))), ((a 35), .inl (dA 0, 800, .inl u))])) A) (by decide) rfl (fun w h => List.mem_cons_of_mem _ h) (Nat.le_of_ble_eq_true rfl) ?_
  intro p e s m below meth c ls A hx hb hr hlocks hml hts hown hP hK hD hA hnm hsz hl
  have hS : va_S A s.heap s.heap [] := va_S.rf
  obtain ⟨H, hHe⟩ : ∃ H, H = s.heap := ⟨_, rfl⟩
  obtain ⟨locs, hlo⟩ : ∃ z : List Loc, z = [] := ⟨_, rfl⟩
  have hS : va_S A s.heap H locs := by rw [hHe, hlo]; exact hS
  suffices K0 : W p l e _ s m _ below meth c H locs 0 0 _ _ by rw [hHe, hlo] at K0; exact K0
  rw [← hHe] at hP
  have hown : s.vm.findClass RX5 = some m.cls := hown
  have hl : lv_has ls 4 [(0, .ref m0), (1, .int d), (2, .int i), (3, .int v0)] := hl
  refine lv_iload_n hx hb dX5_put_0 rfl (lv_at hl 1 rfl) ?_
  refine lv_iconst (v := 0) hx hb dX5_put_1 (by decide) ?_
  refine lv_bipush (v := 7) hx hb dX5_put_2 (by decide) ?_
  refine ro_S (rest := []) (As := [.int d, .int 0, .int 7]) (wc := []) ⟨hx, hb, hml, hown, hts⟩ (met_X5_isIn d 0 7) (va_cwS 3 hts (lw_S q1234 q1235 q46 q1236) rfl rfl rfl hdS_X5_isIn ⟨Nat.le_of_ble_eq_true rfl, Nat.le_of_ble_eq_true rfl⟩) hK hP [] rfl rfl hl.1 rfl (Nat.le_of_ble_eq_true rfl) dX5_put_4 ⟨Nat.le_of_ble_eq_true rfl, Nat.le_of_ble_eq_true rfl⟩ (fun r_4 h_4 => ?_)
  obtain rfl : r_4 = bI (0 ≤ d ∧ d ≤ 7) := h_4
  refine lv_if_ne (tgt := 12) hx hb dX5_put_7 (by decide) (fun c_7 => ?_) (fun c_7 => ?_)
  · skip
    have c_7 := bI_ne0 (P := 0 ≤ d ∧ d ≤ 7) rfl c_7
    obtain ⟨dd, hdd, rfl⟩ := ix_lit 8 (by decide) (by decide) c_7
    have e_dd : (nI dd).toNatClampNeg = dd := nI_clamp (by omega)
    have hzd := hz dd hdd
    refine lv_aload_n hx hb dX5_put_12 rfl (lv_at hl 0 rfl) ?_
    refine va_get (D := (dC, dI)) (ci := 4) (v := .ref (a 32)) (C := RX5) (T := TX5) (N := 41) hx hb hts in_X5 hown hK.1 hP 0 rfl rfl 32 (by decide) (hts _ q1124) (fun _ h9 => h9) rfl dX5_put_13 ?_
    refine lv_iload_n hx hb dX5_put_16 rfl (lv_at hl 1 rfl) ?_
    refine va_iald hx hb hK.1 hP 1 0 rfl rfl (vp_in_nI (by omega) (by omega)) dX5_put_17 ?_
    refine lv_eqi (y := (hol dd)) (congrArg hol (nI_clamp (by omega))) ?_
    refine lv_if_ne (tgt := 24) hx hb dX5_put_18 (by decide) (fun c_18 => ?_) (fun c_18 => ?_)
    · skip
      refine lv_aload_n hx hb dX5_put_24 rfl (lv_at hl 0 rfl) ?_
      refine va_get (D := (dC, dI)) (ci := 4) (v := .ref (a 32)) (C := RX5) (T := TX5) (N := 41) hx hb hts in_X5 hown hK.1 hP 0 rfl rfl 32 (by decide) (hts _ q1124) (fun _ h9 => h9) rfl dX5_put_25 ?_
      refine lv_iload_n hx hb dX5_put_28 rfl (lv_at hl 1 rfl) ?_
      refine va_iald hx hb hK.1 hP 1 0 rfl rfl (vp_in_nI (by omega) (by omega)) dX5_put_29 ?_
      refine lv_eqi (y := (hol dd)) (congrArg hol (nI_clamp (by omega))) ?_
      refine lv_iconst (v := 1) hx hb dX5_put_30 (by decide) ?_
      refine lv_icmp_ne (tgt := 37) hx hb dX5_put_31 (by decide) (fun c_31 => ?_) (fun c_31 => ?_)
      · skip
        refine lv_iload_n hx hb dX5_put_37 rfl (lv_at hl 2 rfl) ?_
        refine lv_iconst (v := 0) hx hb dX5_put_38 (by decide) ?_
        refine lv_aload_n hx hb dX5_put_39 rfl (lv_at hl 0 rfl) ?_
        refine va_get (D := (dC, dI)) (ci := 4) (v := .ref (a 34)) (C := RX5) (T := TX5) (N := 41) hx hb hts in_X5 hown hK.1 hP 0 rfl rfl 34 (by decide) (hts _ q1126) (fun _ h9 => h9) rfl dX5_put_40 ?_
        refine lv_iload_n hx hb dX5_put_43 rfl (lv_at hl 1 rfl) ?_
        refine va_iald hx hb hK.1 hP 3 0 rfl rfl (vp_in_nI (by omega) (by omega)) dX5_put_44 ?_
        refine lv_eqi (y := (nI (zn dd))) (congrArg (nF zn) (nI_clamp (by omega))) ?_
        refine lv_iconst (v := 1) hx hb dX5_put_45 (by decide) ?_
        refine lv_isub hx hb dX5_put_46 ?_
        refine ro_S (rest := []) (As := [.int i, .int 0, .int ((nI (zn dd)) - 1)]) (wc := []) ⟨hx, hb, hml, hown, hts⟩ (met_X5_isIn i 0 ((nI (zn dd)) - 1)) (va_cwS 3 hts (lw_S q1234 q1235 q46 q1236) rfl rfl rfl hdS_X5_isIn ⟨Nat.le_of_ble_eq_true rfl, Nat.le_of_ble_eq_true rfl⟩) hK hP [] rfl rfl hl.1 rfl (Nat.le_of_ble_eq_true rfl) dX5_put_47 ⟨Nat.le_of_ble_eq_true rfl, Nat.le_of_ble_eq_true rfl⟩ (fun r_47 h_47 => ?_)
        obtain rfl : r_47 = bI (0 ≤ i ∧ i ≤ ((nI (zn dd)) - 1)) := h_47
        refine lv_if_ne (tgt := 56) hx hb dX5_put_50 (by decide) (fun c_50 => ?_) (fun c_50 => ?_)
        · skip
          have c_50 := bI_ne0 (P := 0 ≤ i ∧ i ≤ ((nI (zn dd)) - 1)) rfl c_50
          obtain ⟨ii, hii, rfl⟩ := ix_nI (by omega) c_50
          have e_ii : (nI ii).toNatClampNeg = ii := nI_clamp (by omega)
          refine lv_aload_n hx hb dX5_put_56 rfl (lv_at hl 0 rfl) ?_
          refine va_get (D := (dC, dI)) (ci := 4) (v := .ref (a 35)) (C := RX5) (T := TX5) (N := 41) hx hb hts in_X5 hown hK.1 hP 0 rfl rfl 35 (by decide) (hts _ q1127) (fun _ h9 => h9) rfl dX5_put_57 ?_
          refine lv_bipush (v := 100) hx hb dX5_put_60 (by decide) ?_
          refine lv_iload_n hx hb dX5_put_62 rfl (lv_at hl 1 rfl) ?_
          refine lv_imul hx hb dX5_put_63 ?_
          refine lv_iload_n hx hb dX5_put_64 rfl (lv_at hl 2 rfl) ?_
          refine lv_iadd hx hb dX5_put_65 ?_
          refine lv_eqi (y := (nI (100 * dd + ii))) (c100 dd ii) ?_
          refine lv_aload_n hx hb dX5_put_66 rfl (lv_at hl 0 rfl) ?_
          refine va_get (D := (dC, dI)) (ci := 4) (v := .ref (a 33)) (C := RX5) (T := TX5) (N := 41) hx hb hts in_X5 hown hK.1 hP 0 rfl rfl 33 (by decide) (hts _ q1125) (fun _ h9 => h9) rfl dX5_put_67 ?_
          refine lv_iload_n hx hb dX5_put_70 rfl (lv_at hl 1 rfl) ?_
          refine va_iald hx hb hK.1 hP 2 0 rfl rfl (vp_in_nI (by omega) (by omega)) dX5_put_71 ?_
          refine lv_eqi (y := (sor dd)) (congrArg sor (nI_clamp (by omega))) ?_
          refine lv_if_ne (tgt := 80) hx hb dX5_put_72 (by decide) (fun c_72 => ?_) (fun c_72 => ?_)
          · skip
            refine lv_aload_n hx hb dX5_put_80 rfl (lv_at hl 0 rfl) ?_
            refine va_get (D := (dC, dI)) (ci := 4) (v := .ref (a 33)) (C := RX5) (T := TX5) (N := 41) hx hb hts in_X5 hown hK.1 hP 0 rfl rfl 33 (by decide) (hts _ q1125) (fun _ h9 => h9) rfl dX5_put_81 ?_
            refine lv_iload_n hx hb dX5_put_84 rfl (lv_at hl 1 rfl) ?_
            refine va_iald hx hb hK.1 hP 2 0 rfl rfl (vp_in_nI (by omega) (by omega)) dX5_put_85 ?_
            refine lv_eqi (y := (sor dd)) (congrArg sor (nI_clamp (by omega))) ?_
            refine lv_iconst (v := 1) hx hb dX5_put_86 (by decide) ?_
            refine lv_icmp_ne (tgt := 95) hx hb dX5_put_87 (by decide) (fun c_87 => ?_) (fun c_87 => ?_)
            · skip
              refine lv_iload_n hx hb dX5_put_95 rfl (lv_at hl 3 rfl) ?_
              refine va_iast hx hb hK.1 hP hD hS 4 0 rfl rfl (vp_in_nI (by omega) (by omega)) dX5_put_96 (fun H locs hP hD hS => ?_)
              rw [nI_clamp (n := (100 * dd + ii)) (by omega)] at hP hD
              have hP : va_P (dC, dI) vwCl [(m0, .inr (4, moF a v)), ((a 32), .inl (dA 0, 8, .inl hol)), ((a 33), .inl (dA 0, 8, .inl sor)), ((a 34), .inl (dA 0, 8, .inl (nF zn))), ((a 35), .inl (dA 0, 800, .inl (upd itm (100 * dd + ii) v0)))] H := hP
              have hD : va_D A [(m0, .inr (4, moF a v)), ((a 32), .inl (dA 0, 8, .inl hol)), ((a 33), .inl (dA 0, 8, .inl sor)), ((a 34), .inl (dA 0, 8, .inl (nF zn))), ((a 35), .inl (dA 0, 800, .inl (upd itm (100 * dd + ii) v0)))] := hD
              refine lv_iconst (v := 0) hx hb dX5_put_97 (by decide) ?_
              refine rt_i hx hb hr hlocks dX5_put_98 hP hD hS (Nat.le_of_ble_eq_true rfl) (Nat.le_of_ble_eq_true rfl) (upd itm (100 * dd + ii) v0) [0, 1, 2, 3, 4] rfl (by decide) ?_
              clear hl hP hD hK hts hS
              grind [sp_putr, sp_nar, nF]
            · skip
              refine lv_iload_n hx hb dX5_put_90 rfl (lv_at hl 3 rfl) ?_
              refine lv_i2s hx hb dX5_put_91 rfl ?_
              refine lv_goto (tgt := 96) hx hb dX5_put_92 (by decide) ?_
              refine va_iast hx hb hK.1 hP hD hS 4 0 rfl rfl (vp_in_nI (by omega) (by omega)) dX5_put_96 (fun H locs hP hD hS => ?_)
              rw [nI_clamp (n := (100 * dd + ii)) (by omega)] at hP hD
              have hP : va_P (dC, dI) vwCl [(m0, .inr (4, moF a v)), ((a 32), .inl (dA 0, 8, .inl hol)), ((a 33), .inl (dA 0, 8, .inl sor)), ((a 34), .inl (dA 0, 8, .inl (nF zn))), ((a 35), .inl (dA 0, 800, .inl (upd itm (100 * dd + ii) ((v0).toInt16.toInt32))))] H := hP
              have hD : va_D A [(m0, .inr (4, moF a v)), ((a 32), .inl (dA 0, 8, .inl hol)), ((a 33), .inl (dA 0, 8, .inl sor)), ((a 34), .inl (dA 0, 8, .inl (nF zn))), ((a 35), .inl (dA 0, 800, .inl (upd itm (100 * dd + ii) ((v0).toInt16.toInt32))))] := hD
              refine lv_iconst (v := 0) hx hb dX5_put_97 (by decide) ?_
              refine rt_i hx hb hr hlocks dX5_put_98 hP hD hS (Nat.le_of_ble_eq_true rfl) (Nat.le_of_ble_eq_true rfl) (upd itm (100 * dd + ii) ((v0).toInt16.toInt32)) [0, 1, 2, 3, 4] rfl (by decide) ?_
              clear hl hP hD hK hts hS
              grind [sp_putr, sp_nar, nF]
          · skip
            refine lv_iload_n hx hb dX5_put_75 rfl (lv_at hl 3 rfl) ?_
            refine lv_i2b hx hb dX5_put_76 rfl ?_
            refine lv_goto (tgt := 96) hx hb dX5_put_77 (by decide) ?_
            refine va_iast hx hb hK.1 hP hD hS 4 0 rfl rfl (vp_in_nI (by omega) (by omega)) dX5_put_96 (fun H locs hP hD hS => ?_)
            rw [nI_clamp (n := (100 * dd + ii)) (by omega)] at hP hD
            have hP : va_P (dC, dI) vwCl [(m0, .inr (4, moF a v)), ((a 32), .inl (dA 0, 8, .inl hol)), ((a 33), .inl (dA 0, 8, .inl sor)), ((a 34), .inl (dA 0, 8, .inl (nF zn))), ((a 35), .inl (dA 0, 800, .inl (upd itm (100 * dd + ii) ((v0).toInt8.toInt32))))] H := hP
            have hD : va_D A [(m0, .inr (4, moF a v)), ((a 32), .inl (dA 0, 8, .inl hol)), ((a 33), .inl (dA 0, 8, .inl sor)), ((a 34), .inl (dA 0, 8, .inl (nF zn))), ((a 35), .inl (dA 0, 800, .inl (upd itm (100 * dd + ii) ((v0).toInt8.toInt32))))] := hD
            refine lv_iconst (v := 0) hx hb dX5_put_97 (by decide) ?_
            refine rt_i hx hb hr hlocks dX5_put_98 hP hD hS (Nat.le_of_ble_eq_true rfl) (Nat.le_of_ble_eq_true rfl) (upd itm (100 * dd + ii) ((v0).toInt8.toInt32)) [0, 1, 2, 3, 4] rfl (by decide) ?_
            clear hl hP hD hK hts hS
            grind [sp_putr, sp_nar, nF]
        · skip
          have c_50 := bI_eq0 (P := 0 ≤ i ∧ i ≤ ((nI (zn dd)) - 1)) rfl c_50
          refine lv_bipush (v := (-13)) hx hb dX5_put_53 (by decide) ?_
          refine rt_i hx hb hr hlocks dX5_put_55 hP hD hS (Nat.le_of_ble_eq_true rfl) (Nat.le_of_ble_eq_true rfl) itm [0, 1, 2, 3, 4] rfl (by decide) ?_
          clear hl hP hD hK hts hS
          grind [sp_putr, sp_nar, nF]
      · skip
        refine lv_bipush (v := (-12)) hx hb dX5_put_34 (by decide) ?_
        refine rt_i hx hb hr hlocks dX5_put_36 hP hD hS (Nat.le_of_ble_eq_true rfl) (Nat.le_of_ble_eq_true rfl) itm [0, 1, 2, 3, 4] rfl (by decide) ?_
        clear hl hP hD hK hts hS
        grind [sp_putr, sp_nar, nF]
    · skip
      refine lv_bipush (v := (-11)) hx hb dX5_put_21 (by decide) ?_
      refine rt_i hx hb hr hlocks dX5_put_23 hP hD hS (Nat.le_of_ble_eq_true rfl) (Nat.le_of_ble_eq_true rfl) itm [0, 1, 2, 3, 4] rfl (by decide) ?_
      clear hl hP hD hK hts hS
      grind [sp_putr, sp_nar, nF]
  · skip
    have c_7 := bI_eq0 (P := 0 ≤ d ∧ d ≤ 7) rfl c_7
    refine lv_iconst (v := (-1)) hx hb dX5_put_10 (by decide) ?_
    refine rt_i hx hb hr hlocks dX5_put_11 hP hD hS (Nat.le_of_ble_eq_true rfl) (Nat.le_of_ble_eq_true rfl) itm [0, 1, 2, 3, 4] rfl (by decide) ?_
    clear hl hP hD hK hts hS
    grind [sp_putr, sp_nar, nF]
theorem hdS_X5_element : yX5_element.cls ≠ "java/lang/invoke/MethodHandle" ∧ yX5_element.cls ≠ "java/lang/invoke/VarHandle" ∧ (parseMethodDescriptor yX5_element.desc).map (fun d => d.parameters.length) = some 2 := by decide +kernel
theorem hdV_X5_element : yX5_element.cls = RX5 ∧ yX5_element.cls ≠ "java/lang/invoke/MethodHandle" ∧ yX5_element.cls ≠ "java/lang/invoke/VarHandle" ∧ (parseMethodDescriptor yX5_element.desc).map (fun d => d.parameters.length) = some 2 := ⟨rfl, hdS_X5_element⟩
set_option maxHeartbeats 4000000 in
set_option maxRecDepth 100000 in
theorem met_X5_element {l : Launch} {dC : Nat → ClassId} {dI : Nat → Nat → Nat} {dA : Nat → ClassId} (sz : Nat) (m0 : Nat) (a : Nat → Nat) (v : Nat → Int32) (zn : Nat → Nat) (hol : Nat → Int32) (itm : Nat → Int32) (d : Int32) (i : Int32) (hz : ∀ d, d < 8 → zn d ≤ 100) : Met l yX5_element (ws_ yX5_element cX5_element 3 (some .long)) ({ frames := 4, cells := 0, slots := 0, locals := 192 } : Room) (RwP dC dI dA [.ref m0, .int d, .int i] [(m0, .inr (4, moF a v)), ((a 32), .inl (dA 0, 8, .inl hol)), ((a 34), .inl (dA 0, 8, .inl (nF zn))), ((a 35), .inl (dA 0, 800, .inl itm))] sz) (va_Ql (fun (r : Int64) (u : Int32) => u = sp_elt hol (nF zn) d i ∧ (u = 0 → r = (itm (100 * d.toNatClampNeg + i.toNatClampNeg)).toInt64)) (RwB dC dI (va_A [(m0, .inr (4, moF a v)), ((a 32), .inl (dA 0, 8, .inl hol)), ((a 34), .inl (dA 0, 8, .inl (nF zn))), ((a 35), .inl (dA 0, 800, .inl itm))] sz) (fun (u : Int32) => [(m0, .inr (4, moF a (va_up v 40 u))), ((a 32), .inl (dA 0, 8, .inl hol)), ((a 34), .inl (dA 0, 8, .inl (nF zn))), ((a 35), .inl (dA 0, 800, .inl itm))])) (va_A [(m0, .inr (4, moF a v)), ((a 32), .inl (dA 0, 8, .inl hol)), ((a 34), .inl (dA 0, 8, .inl (nF zn))), ((a 35), .inl (dA 0, 800, .inl itm))] sz)) 0 0 (va_A [(m0, .inr (4, moF a v)), ((a 32), .inl (dA 0, 8, .inl hol)), ((a 34), .inl (dA 0, 8, .inl (nF zn))), ((a 35), .inl (dA 0, 800, .inl itm))] sz) := by
  refine ofRw (cc := cX5_element) (maxL := 3) (ret := (some .long)) (Qf := fun A => va_Ql (fun (r : Int64) (u : Int32) => u = sp_elt hol (nF zn) d i ∧ (u = 0 → r = (itm (100 * d.toNatClampNeg + i.toNatClampNeg)).toInt64)) (RwB dC dI A (fun (u : Int32) => [(m0, .inr (4, moF a (va_up v 40 u))), ((a 32), .inl (dA 0, 8, .inl hol)), ((a 34), .inl (dA 0, 8, .inl (nF zn))), ((a 35), .inl (dA 0, 800, .inl itm))])) A) (by decide) rfl (fun w h => List.mem_cons_of_mem _ h) (Nat.le_of_ble_eq_true rfl) ?_
  intro p e s m below meth c ls A hx hb hr hlocks hml hts hown hP hK hD hA hnm hsz hl
  have hS : va_S A s.heap s.heap [] := va_S.rf
  obtain ⟨H, hHe⟩ : ∃ H, H = s.heap := ⟨_, rfl⟩
  obtain ⟨locs, hlo⟩ : ∃ z : List Loc, z = [] := ⟨_, rfl⟩
  have hS : va_S A s.heap H locs := by rw [hHe, hlo]; exact hS
  suffices K0 : W p l e _ s m _ below meth c H locs 0 0 _ _ by rw [hHe, hlo] at K0; exact K0
  rw [← hHe] at hP
  have hown : s.vm.findClass RX5 = some m.cls := hown
  have hl : lv_has ls 3 [(0, .ref m0), (1, .int d), (2, .int i)] := hl
  refine lv_aload_n hx hb dX5_element_0 rfl (lv_at hl 0 rfl) ?_
  refine lv_iload_n hx hb dX5_element_1 rfl (lv_at hl 1 rfl) ?_
  refine lv_iconst (v := 0) hx hb dX5_element_2 (by decide) ?_
  refine lv_bipush (v := 7) hx hb dX5_element_3 (by decide) ?_
  refine ro_S (rest := [.ref m0]) (As := [.int d, .int 0, .int 7]) (wc := []) ⟨hx, hb, hml, hown, hts⟩ (met_X5_isIn d 0 7) (va_cwS 3 hts (lw_S q1234 q1235 q46 q1236) rfl rfl rfl hdS_X5_isIn ⟨Nat.le_of_ble_eq_true rfl, Nat.le_of_ble_eq_true rfl⟩) hK hP [] rfl rfl hl.1 rfl (Nat.le_of_ble_eq_true rfl) dX5_element_5 ⟨Nat.le_of_ble_eq_true rfl, Nat.le_of_ble_eq_true rfl⟩ (fun r_5 h_5 => ?_)
  obtain rfl : r_5 = bI (0 ≤ d ∧ d ≤ 7) := h_5
  refine lv_if_ne (tgt := 15) hx hb dX5_element_8 (by decide) (fun c_8 => ?_) (fun c_8 => ?_)
  · skip
    have c_8 := bI_ne0 (P := 0 ≤ d ∧ d ≤ 7) rfl c_8
    refine lv_iconst (v := 0) hx hb dX5_element_15 (by decide) ?_
    refine va_put (D := (dC, dI)) (ci := 4) (v := .int 0) (ty := .int) (C := RX5) (T := TX5) (N := 41) hx hb hts in_X5 tyX5 tyX5_ok nmX5 hown hK.1 hP hD hS 0 rfl rfl 40 (by decide) (hts _ q1132) (fun _ h9 => h9) rfl (tyX5_ok 40 (by decide)) rfl rfl (Nat.le_of_ble_eq_true rfl) dX5_element_16 (fun H locs hP hD hS => ?_)
    have hP : va_P (dC, dI) vwCl [(m0, .inr (4, moF a (va_up v 40 0))), ((a 32), .inl (dA 0, 8, .inl hol)), ((a 34), .inl (dA 0, 8, .inl (nF zn))), ((a 35), .inl (dA 0, 800, .inl itm))] H := hP
    have hD : va_D A [(m0, .inr (4, moF a (va_up v 40 0))), ((a 32), .inl (dA 0, 8, .inl hol)), ((a 34), .inl (dA 0, 8, .inl (nF zn))), ((a 35), .inl (dA 0, 800, .inl itm))] := hD
    refine lv_aload_n hx hb dX5_element_19 rfl (lv_at hl 0 rfl) ?_
    refine va_get (D := (dC, dI)) (ci := 4) (v := .int 0) (C := RX5) (T := TX5) (N := 41) hx hb hts in_X5 hown hK.1 hP 0 rfl rfl 40 (by decide) (hts _ q1132) (fun _ h9 => h9) rfl dX5_element_20 ?_
    refine lv_if_ne (tgt := 57) hx hb dX5_element_23 (by decide) (fun c_23 => ?_) (fun c_23 => ?_)
    · skip
      exact absurd c_23 (by decide)
    · skip
      obtain ⟨dd, hdd, rfl⟩ := ix_lit 8 (by decide) (by decide) c_8
      have e_dd : (nI dd).toNatClampNeg = dd := nI_clamp (by omega)
      have hzd := hz dd hdd
      refine lv_aload_n hx hb dX5_element_26 rfl (lv_at hl 0 rfl) ?_
      refine va_get (D := (dC, dI)) (ci := 4) (v := .ref (a 32)) (C := RX5) (T := TX5) (N := 41) hx hb hts in_X5 hown hK.1 hP 0 rfl rfl 32 (by decide) (hts _ q1124) (fun _ h9 => h9) rfl dX5_element_27 ?_
      refine lv_iload_n hx hb dX5_element_30 rfl (lv_at hl 1 rfl) ?_
      refine va_iald hx hb hK.1 hP 1 0 rfl rfl (vp_in_nI (by omega) (by omega)) dX5_element_31 ?_
      refine lv_eqi (y := (hol dd)) (congrArg hol (nI_clamp (by omega))) ?_
      refine lv_iconst (v := 2) hx hb dX5_element_32 (by decide) ?_
      refine lv_icmp_ne (tgt := 52) hx hb dX5_element_33 (by decide) (fun c_33 => ?_) (fun c_33 => ?_)
      · skip
        refine lv_aload_n hx hb dX5_element_52 rfl (lv_at hl 0 rfl) ?_
        refine lv_iconst (v := 2) hx hb dX5_element_53 (by decide) ?_
        refine va_put (D := (dC, dI)) (ci := 4) (v := .int 2) (ty := .int) (C := RX5) (T := TX5) (N := 41) hx hb hts in_X5 tyX5 tyX5_ok nmX5 hown hK.1 hP hD hS 0 rfl rfl 40 (by decide) (hts _ q1132) (fun _ h9 => h9) rfl (tyX5_ok 40 (by decide)) rfl rfl (Nat.le_of_ble_eq_true rfl) dX5_element_54 (fun H locs hP hD hS => ?_)
        have hP : va_P (dC, dI) vwCl [(m0, .inr (4, moF a (va_up v 40 2))), ((a 32), .inl (dA 0, 8, .inl hol)), ((a 34), .inl (dA 0, 8, .inl (nF zn))), ((a 35), .inl (dA 0, 800, .inl itm))] H := hP
        have hD : va_D A [(m0, .inr (4, moF a (va_up v 40 2))), ((a 32), .inl (dA 0, 8, .inl hol)), ((a 34), .inl (dA 0, 8, .inl (nF zn))), ((a 35), .inl (dA 0, 800, .inl itm))] := hD
        refine lv_aload_n hx hb dX5_element_57 rfl (lv_at hl 0 rfl) ?_
        refine va_get (D := (dC, dI)) (ci := 4) (v := .int 2) (C := RX5) (T := TX5) (N := 41) hx hb hts in_X5 hown hK.1 hP 0 rfl rfl 40 (by decide) (hts _ q1132) (fun _ h9 => h9) rfl dX5_element_58 ?_
        refine lv_if_ne (tgt := 79) hx hb dX5_element_61 (by decide) (fun c_61 => ?_) (fun c_61 => ?_)
        · skip
          refine lv_lconst (v := 0) hx hb dX5_element_79 (by decide) ?_
          refine rt_l hx hb hr hlocks dX5_element_80 hP hD hS (Nat.le_of_ble_eq_true rfl) (Nat.le_of_ble_eq_true rfl) 2 [0, 1, 2, 3] rfl (by decide) ?_
          clear hl hP hD hK hts hS
          grind [sp_elt, nF]
        · skip
          exact absurd c_61 (by decide)
      · skip
        refine lv_iload_n hx hb dX5_element_36 rfl (lv_at hl 2 rfl) ?_
        refine lv_iconst (v := 0) hx hb dX5_element_37 (by decide) ?_
        refine lv_aload_n hx hb dX5_element_38 rfl (lv_at hl 0 rfl) ?_
        refine va_get (D := (dC, dI)) (ci := 4) (v := .ref (a 34)) (C := RX5) (T := TX5) (N := 41) hx hb hts in_X5 hown hK.1 hP 0 rfl rfl 34 (by decide) (hts _ q1126) (fun _ h9 => h9) rfl dX5_element_39 ?_
        refine lv_iload_n hx hb dX5_element_42 rfl (lv_at hl 1 rfl) ?_
        refine va_iald hx hb hK.1 hP 2 0 rfl rfl (vp_in_nI (by omega) (by omega)) dX5_element_43 ?_
        refine lv_eqi (y := (nI (zn dd))) (congrArg (nF zn) (nI_clamp (by omega))) ?_
        refine lv_iconst (v := 1) hx hb dX5_element_44 (by decide) ?_
        refine lv_isub hx hb dX5_element_45 ?_
        refine ro_S (rest := []) (As := [.int i, .int 0, .int ((nI (zn dd)) - 1)]) (wc := []) ⟨hx, hb, hml, hown, hts⟩ (met_X5_isIn i 0 ((nI (zn dd)) - 1)) (va_cwS 3 hts (lw_S q1234 q1235 q46 q1236) rfl rfl rfl hdS_X5_isIn ⟨Nat.le_of_ble_eq_true rfl, Nat.le_of_ble_eq_true rfl⟩) hK hP [] rfl rfl hl.1 rfl (Nat.le_of_ble_eq_true rfl) dX5_element_46 ⟨Nat.le_of_ble_eq_true rfl, Nat.le_of_ble_eq_true rfl⟩ (fun r_46 h_46 => ?_)
        obtain rfl : r_46 = bI (0 ≤ i ∧ i ≤ ((nI (zn dd)) - 1)) := h_46
        refine lv_if_ne (tgt := 57) hx hb dX5_element_49 (by decide) (fun c_49 => ?_) (fun c_49 => ?_)
        · skip
          have c_49 := bI_ne0 (P := 0 ≤ i ∧ i ≤ ((nI (zn dd)) - 1)) rfl c_49
          refine lv_aload_n hx hb dX5_element_57 rfl (lv_at hl 0 rfl) ?_
          refine va_get (D := (dC, dI)) (ci := 4) (v := .int 0) (C := RX5) (T := TX5) (N := 41) hx hb hts in_X5 hown hK.1 hP 0 rfl rfl 40 (by decide) (hts _ q1132) (fun _ h9 => h9) rfl dX5_element_58 ?_
          refine lv_if_ne (tgt := 79) hx hb dX5_element_61 (by decide) (fun c_61_2 => ?_) (fun c_61_2 => ?_)
          · skip
            exact absurd c_61_2 (by decide)
          · skip
            obtain ⟨ii, hii, rfl⟩ := ix_nI (by omega) c_49
            have e_ii : (nI ii).toNatClampNeg = ii := nI_clamp (by omega)
            refine lv_aload_n hx hb dX5_element_64 rfl (lv_at hl 0 rfl) ?_
            refine va_get (D := (dC, dI)) (ci := 4) (v := .ref (a 35)) (C := RX5) (T := TX5) (N := 41) hx hb hts in_X5 hown hK.1 hP 0 rfl rfl 35 (by decide) (hts _ q1127) (fun _ h9 => h9) rfl dX5_element_65 ?_
            refine lv_bipush (v := 100) hx hb dX5_element_68 (by decide) ?_
            refine lv_iload_n hx hb dX5_element_70 rfl (lv_at hl 1 rfl) ?_
            refine lv_imul hx hb dX5_element_71 ?_
            refine lv_iload_n hx hb dX5_element_72 rfl (lv_at hl 2 rfl) ?_
            refine lv_iadd hx hb dX5_element_73 ?_
            refine lv_eqi (y := (nI (100 * dd + ii))) (c100 dd ii) ?_
            refine va_iald hx hb hK.1 hP 3 0 rfl rfl (vp_in_nI (by omega) (by omega)) dX5_element_74 ?_
            refine lv_eqi (y := (itm (100 * dd + ii))) (congrArg itm (nI_clamp (by omega))) ?_
            refine lv_i2l hx hb dX5_element_75 rfl ?_
            refine lv_goto (tgt := 80) hx hb dX5_element_76 (by decide) ?_
            refine rt_l hx hb hr hlocks dX5_element_80 hP hD hS (Nat.le_of_ble_eq_true rfl) (Nat.le_of_ble_eq_true rfl) 0 [0, 1, 2, 3] rfl (by decide) ?_
            clear hl hP hD hK hts hS
            grind [sp_elt, nF]
        · skip
          have c_49 := bI_eq0 (P := 0 ≤ i ∧ i ≤ ((nI (zn dd)) - 1)) rfl c_49
          refine lv_aload_n hx hb dX5_element_52 rfl (lv_at hl 0 rfl) ?_
          refine lv_iconst (v := 2) hx hb dX5_element_53 (by decide) ?_
          refine va_put (D := (dC, dI)) (ci := 4) (v := .int 2) (ty := .int) (C := RX5) (T := TX5) (N := 41) hx hb hts in_X5 tyX5 tyX5_ok nmX5 hown hK.1 hP hD hS 0 rfl rfl 40 (by decide) (hts _ q1132) (fun _ h9 => h9) rfl (tyX5_ok 40 (by decide)) rfl rfl (Nat.le_of_ble_eq_true rfl) dX5_element_54 (fun H locs hP hD hS => ?_)
          have hP : va_P (dC, dI) vwCl [(m0, .inr (4, moF a (va_up v 40 2))), ((a 32), .inl (dA 0, 8, .inl hol)), ((a 34), .inl (dA 0, 8, .inl (nF zn))), ((a 35), .inl (dA 0, 800, .inl itm))] H := hP
          have hD : va_D A [(m0, .inr (4, moF a (va_up v 40 2))), ((a 32), .inl (dA 0, 8, .inl hol)), ((a 34), .inl (dA 0, 8, .inl (nF zn))), ((a 35), .inl (dA 0, 800, .inl itm))] := hD
          refine lv_aload_n hx hb dX5_element_57 rfl (lv_at hl 0 rfl) ?_
          refine va_get (D := (dC, dI)) (ci := 4) (v := .int 2) (C := RX5) (T := TX5) (N := 41) hx hb hts in_X5 hown hK.1 hP 0 rfl rfl 40 (by decide) (hts _ q1132) (fun _ h9 => h9) rfl dX5_element_58 ?_
          refine lv_if_ne (tgt := 79) hx hb dX5_element_61 (by decide) (fun c_61_3 => ?_) (fun c_61_3 => ?_)
          · skip
            refine lv_lconst (v := 0) hx hb dX5_element_79 (by decide) ?_
            refine rt_l hx hb hr hlocks dX5_element_80 hP hD hS (Nat.le_of_ble_eq_true rfl) (Nat.le_of_ble_eq_true rfl) 2 [0, 1, 2, 3] rfl (by decide) ?_
            clear hl hP hD hK hts hS
            grind [sp_elt, nF]
          · skip
            exact absurd c_61_3 (by decide)
  · skip
    have c_8 := bI_eq0 (P := 0 ≤ d ∧ d ≤ 7) rfl c_8
    refine lv_iconst (v := 1) hx hb dX5_element_11 (by decide) ?_
    refine lv_goto (tgt := 16) hx hb dX5_element_12 (by decide) ?_
    refine va_put (D := (dC, dI)) (ci := 4) (v := .int 1) (ty := .int) (C := RX5) (T := TX5) (N := 41) hx hb hts in_X5 tyX5 tyX5_ok nmX5 hown hK.1 hP hD hS 0 rfl rfl 40 (by decide) (hts _ q1132) (fun _ h9 => h9) rfl (tyX5_ok 40 (by decide)) rfl rfl (Nat.le_of_ble_eq_true rfl) dX5_element_16 (fun H locs hP hD hS => ?_)
    have hP : va_P (dC, dI) vwCl [(m0, .inr (4, moF a (va_up v 40 1))), ((a 32), .inl (dA 0, 8, .inl hol)), ((a 34), .inl (dA 0, 8, .inl (nF zn))), ((a 35), .inl (dA 0, 800, .inl itm))] H := hP
    have hD : va_D A [(m0, .inr (4, moF a (va_up v 40 1))), ((a 32), .inl (dA 0, 8, .inl hol)), ((a 34), .inl (dA 0, 8, .inl (nF zn))), ((a 35), .inl (dA 0, 800, .inl itm))] := hD
    refine lv_aload_n hx hb dX5_element_19 rfl (lv_at hl 0 rfl) ?_
    refine va_get (D := (dC, dI)) (ci := 4) (v := .int 1) (C := RX5) (T := TX5) (N := 41) hx hb hts in_X5 hown hK.1 hP 0 rfl rfl 40 (by decide) (hts _ q1132) (fun _ h9 => h9) rfl dX5_element_20 ?_
    refine lv_if_ne (tgt := 57) hx hb dX5_element_23 (by decide) (fun c_23_2 => ?_) (fun c_23_2 => ?_)
    · skip
      refine lv_aload_n hx hb dX5_element_57 rfl (lv_at hl 0 rfl) ?_
      refine va_get (D := (dC, dI)) (ci := 4) (v := .int 1) (C := RX5) (T := TX5) (N := 41) hx hb hts in_X5 hown hK.1 hP 0 rfl rfl 40 (by decide) (hts _ q1132) (fun _ h9 => h9) rfl dX5_element_58 ?_
      refine lv_if_ne (tgt := 79) hx hb dX5_element_61 (by decide) (fun c_61_4 => ?_) (fun c_61_4 => ?_)
      · skip
        refine lv_lconst (v := 0) hx hb dX5_element_79 (by decide) ?_
        refine rt_l hx hb hr hlocks dX5_element_80 hP hD hS (Nat.le_of_ble_eq_true rfl) (Nat.le_of_ble_eq_true rfl) 1 [0, 1, 2, 3] rfl (by decide) ?_
        clear hl hP hD hK hts hS
        grind [sp_elt, nF]
      · skip
        exact absurd c_61_4 (by decide)
    · skip
      exact absurd c_23_2 (by decide)
theorem hdS_X5_skillOf : yX5_skillOf.cls ≠ "java/lang/invoke/MethodHandle" ∧ yX5_skillOf.cls ≠ "java/lang/invoke/VarHandle" ∧ (parseMethodDescriptor yX5_skillOf.desc).map (fun d => d.parameters.length) = some 1 := by decide +kernel
theorem hdV_X5_skillOf : yX5_skillOf.cls = RX5 ∧ yX5_skillOf.cls ≠ "java/lang/invoke/MethodHandle" ∧ yX5_skillOf.cls ≠ "java/lang/invoke/VarHandle" ∧ (parseMethodDescriptor yX5_skillOf.desc).map (fun d => d.parameters.length) = some 1 := ⟨rfl, hdS_X5_skillOf⟩
set_option maxHeartbeats 4000000 in
set_option maxRecDepth 100000 in
theorem met_X5_skillOf {l : Launch} {dC : Nat → ClassId} {dI : Nat → Nat → Nat} {dA : Nat → ClassId} (m0 : Nat) (a : Nat → Nat) (v : Nat → Int32) (kio : Nat → Int32) (fio : Nat → Int32) (d : Int32) (hd : 0 ≤ d ∧ d ≤ 7) : Met l yX5_skillOf (ws_ yX5_skillOf cX5_skillOf 3 (some .int)) ({ frames := 2, cells := 0, slots := 0, locals := 64 } : Room) (RoP dC dI dA [.ref m0, .int d] [(m0, .inr (4, moF a v)), ((a 38), .inl (dA 0, 8, .inl kio)), ((a 39), .inl (dA 0, 8, .inl fio))]) (vp_Si (fun r => r = sp_skOf (kio d.toNatClampNeg) (fio d.toNatClampNeg))) 0 0 (fun _ => False) := by
  refine ofRo (cc := cX5_skillOf) (maxL := 3) (ret := (some .int)) (by decide) rfl (fun w h => List.mem_cons_of_mem _ h) (Nat.le_of_ble_eq_true rfl) ?_
  intro p e s m below meth c ls hx hb hr hlocks hml hts hown hP hK hl
  have hown : s.vm.findClass RX5 = some m.cls := hown
  have hl : lv_has ls 3 [(0, .ref m0), (1, .int d)] := hl
  refine lv_aload_n hx hb dX5_skillOf_0 rfl (lv_at hl 0 rfl) ?_
  refine va_get (D := (dC, dI)) (ci := 4) (v := .ref (a 39)) (C := RX5) (T := TX5) (N := 41) hx hb hts in_X5 hown hK.1 hP 0 rfl rfl 39 (by decide) (hts _ q1131) (fun _ h9 => h9) rfl dX5_skillOf_1 ?_
  refine lv_iload_n hx hb dX5_skillOf_4 rfl (lv_at hl 1 rfl) ?_
  refine va_iald hx hb hK.1 hP 2 0 rfl rfl (in_lit (by decide) hd) dX5_skillOf_5 ?_
  refine lv_istore_n (lv' := [(2, .int (fio d.toNatClampNeg)), (0, .ref m0), (1, .int d)]) hx hb dX5_skillOf_6 rfl hl (by decide) rfl (fun ls hl => ?_)
  refine lv_aload_n hx hb dX5_skillOf_7 rfl (lv_at hl 1 rfl) ?_
  refine va_get (D := (dC, dI)) (ci := 4) (v := .ref (a 38)) (C := RX5) (T := TX5) (N := 41) hx hb hts in_X5 hown hK.1 hP 0 rfl rfl 38 (by decide) (hts _ q1130) (fun _ h9 => h9) rfl dX5_skillOf_8 ?_
  refine lv_iload_n hx hb dX5_skillOf_11 rfl (lv_at hl 2 rfl) ?_
  refine va_iald hx hb hK.1 hP 1 0 rfl rfl (in_lit (by decide) hd) dX5_skillOf_12 ?_
  by_cases c_13_0 : (kio d.toNatClampNeg) = 0
  · skip
    refine lv_tableIn (x := (kio d.toNatClampNeg)) (off := 43) (tgt := 56) hx hb dX5_skillOf_13 (by rw [c_13_0]; decide) (by rw [c_13_0]; decide) (by rw [c_13_0]; rfl) (by decide) ?_
    refine lv_iconst (v := 1) hx hb dX5_skillOf_56 (by decide) ?_
    refine rt_si hx hb hr hlocks dX5_skillOf_57 ?_
    clear hl hP hK hts
    grind [sp_skOf]
  by_cases c_13_1 : (kio d.toNatClampNeg) = 1
  · skip
    refine lv_tableIn (x := (kio d.toNatClampNeg)) (off := 45) (tgt := 58) hx hb dX5_skillOf_13 (by rw [c_13_1]; decide) (by rw [c_13_1]; decide) (by rw [c_13_1]; rfl) (by decide) ?_
    refine lv_iconst (v := 1) hx hb dX5_skillOf_58 (by decide) ?_
    refine lv_iload_n hx hb dX5_skillOf_59 rfl (lv_at hl 0 rfl) ?_
    refine lv_iadd hx hb dX5_skillOf_60 ?_
    refine rt_si hx hb hr hlocks dX5_skillOf_61 ?_
    clear hl hP hK hts
    grind [sp_skOf]
  by_cases c_13_2 : (kio d.toNatClampNeg) = 2
  · skip
    refine lv_tableIn (x := (kio d.toNatClampNeg)) (off := 49) (tgt := 62) hx hb dX5_skillOf_13 (by rw [c_13_2]; decide) (by rw [c_13_2]; decide) (by rw [c_13_2]; rfl) (by decide) ?_
    refine lv_iconst (v := 5) hx hb dX5_skillOf_62 (by decide) ?_
    refine rt_si hx hb hr hlocks dX5_skillOf_63 ?_
    clear hl hP hK hts
    grind [sp_skOf]
  by_cases c_13_3 : (kio d.toNatClampNeg) = 3
  · skip
    refine lv_tableIn (x := (kio d.toNatClampNeg)) (off := 51) (tgt := 64) hx hb dX5_skillOf_13 (by rw [c_13_3]; decide) (by rw [c_13_3]; decide) (by rw [c_13_3]; rfl) (by decide) ?_
    refine lv_iconst (v := 5) hx hb dX5_skillOf_64 (by decide) ?_
    refine lv_iload_n hx hb dX5_skillOf_65 rfl (lv_at hl 0 rfl) ?_
    refine lv_imul hx hb dX5_skillOf_66 ?_
    refine rt_si hx hb hr hlocks dX5_skillOf_67 ?_
    clear hl hP hK hts
    grind [sp_skOf]
  by_cases c_13_4 : (kio d.toNatClampNeg) = 4
  · skip
    refine lv_tableIn (x := (kio d.toNatClampNeg)) (off := 55) (tgt := 68) hx hb dX5_skillOf_13 (by rw [c_13_4]; decide) (by rw [c_13_4]; decide) (by rw [c_13_4]; rfl) (by decide) ?_
    refine lv_bipush (v := 15) hx hb dX5_skillOf_68 (by decide) ?_
    refine rt_si hx hb hr hlocks dX5_skillOf_70 ?_
    clear hl hP hK hts
    grind [sp_skOf]
  by_cases c_13_5 : (kio d.toNatClampNeg) = 5
  · skip
    refine lv_tableIn (x := (kio d.toNatClampNeg)) (off := 58) (tgt := 71) hx hb dX5_skillOf_13 (by rw [c_13_5]; decide) (by rw [c_13_5]; decide) (by rw [c_13_5]; rfl) (by decide) ?_
    refine lv_iconst (v := 3) hx hb dX5_skillOf_71 (by decide) ?_
    refine rt_si hx hb hr hlocks dX5_skillOf_72 ?_
    clear hl hP hK hts
    grind [sp_skOf]
  by_cases c_13_6 : (kio d.toNatClampNeg) = 6
  · skip
    refine lv_tableIn (x := (kio d.toNatClampNeg)) (off := 60) (tgt := 73) hx hb dX5_skillOf_13 (by rw [c_13_6]; decide) (by rw [c_13_6]; decide) (by rw [c_13_6]; rfl) (by decide) ?_
    refine lv_iconst (v := 0) hx hb dX5_skillOf_73 (by decide) ?_
    refine rt_si hx hb hr hlocks dX5_skillOf_74 ?_
    clear hl hP hK hts
    grind [sp_skOf]
  refine lv_tableOut (x := (kio d.toNatClampNeg)) (tgt := 75) hx hb dX5_skillOf_13 (by rcases sw_out (x := (kio d.toNatClampNeg)) (lo := 0) (n := 7) (by decide) (fun j hj => match j, hj with | 0, _ => c_13_0 | 1, _ => c_13_1 | 2, _ => c_13_2 | 3, _ => c_13_3 | 4, _ => c_13_4 | 5, _ => c_13_5 | 6, _ => c_13_6 | (k + 7), h => absurd h (by omega)) with h | h <;> omega) (by decide) ?_
  refine lv_iconst (v := 5) hx hb dX5_skillOf_75 (by decide) ?_
  refine lv_iload_n hx hb dX5_skillOf_76 rfl (lv_at hl 0 rfl) ?_
  refine lv_imul hx hb dX5_skillOf_77 ?_
  refine lv_bipush (v := 9) hx hb dX5_skillOf_78 (by decide) ?_
  refine lv_iadd hx hb dX5_skillOf_80 ?_
  refine rt_si hx hb hr hlocks dX5_skillOf_81 ?_
  clear hl hP hK hts
  grind [sp_skOf]
theorem hdS_X5_skill : yX5_skill.cls ≠ "java/lang/invoke/MethodHandle" ∧ yX5_skill.cls ≠ "java/lang/invoke/VarHandle" ∧ (parseMethodDescriptor yX5_skill.desc).map (fun d => d.parameters.length) = some 1 := by decide +kernel
theorem hdV_X5_skill : yX5_skill.cls = RX5 ∧ yX5_skill.cls ≠ "java/lang/invoke/MethodHandle" ∧ yX5_skill.cls ≠ "java/lang/invoke/VarHandle" ∧ (parseMethodDescriptor yX5_skill.desc).map (fun d => d.parameters.length) = some 1 := ⟨rfl, hdS_X5_skill⟩
set_option maxHeartbeats 4000000 in
set_option maxRecDepth 100000 in
theorem met_X5_skill {l : Launch} {dC : Nat → ClassId} {dI : Nat → Nat → Nat} {dA : Nat → ClassId} (m0 : Nat) (a : Nat → Nat) (v : Nat → Int32) (hol : Nat → Int32) (kio : Nat → Int32) (fio : Nat → Int32) (d : Int32)  : Met l yX5_skill (ws_ yX5_skill cX5_skill 2 (some .int)) ({ frames := 3, cells := 0, slots := 0, locals := 128 } : Room) (RoP dC dI dA [.ref m0, .int d] [(m0, .inr (4, moF a v)), ((a 32), .inl (dA 0, 8, .inl hol)), ((a 38), .inl (dA 0, 8, .inl kio)), ((a 39), .inl (dA 0, 8, .inl fio))]) (vp_Si (fun r => r = sp_skill hol kio fio d)) 0 0 (fun _ => False) := by
  refine ofRo (cc := cX5_skill) (maxL := 2) (ret := (some .int)) (by decide) rfl (fun w h => List.mem_cons_of_mem _ h) (Nat.le_of_ble_eq_true rfl) ?_
  intro p e s m below meth c ls hx hb hr hlocks hml hts hown hP hK hl
  have hown : s.vm.findClass RX5 = some m.cls := hown
  have hl : lv_has ls 2 [(0, .ref m0), (1, .int d)] := hl
  refine lv_iload_n hx hb dX5_skill_0 rfl (lv_at hl 1 rfl) ?_
  refine lv_iconst (v := 0) hx hb dX5_skill_1 (by decide) ?_
  refine lv_bipush (v := 7) hx hb dX5_skill_2 (by decide) ?_
  refine ro_S (rest := []) (As := [.int d, .int 0, .int 7]) (wc := []) ⟨hx, hb, hml, hown, hts⟩ (met_X5_isIn d 0 7) (va_cwS 3 hts (lw_S q1234 q1235 q46 q1236) rfl rfl rfl hdS_X5_isIn ⟨Nat.le_of_ble_eq_true rfl, Nat.le_of_ble_eq_true rfl⟩) hK hP [] rfl rfl hl.1 rfl (Nat.le_of_ble_eq_true rfl) dX5_skill_4 ⟨Nat.zero_le _, Nat.zero_le _⟩ (fun r_4 h_4 => ?_)
  obtain rfl : r_4 = bI (0 ≤ d ∧ d ≤ 7) := h_4
  refine lv_if_ne (tgt := 12) hx hb dX5_skill_7 (by decide) (fun c_7 => ?_) (fun c_7 => ?_)
  · skip
    have c_7 := bI_ne0 (P := 0 ≤ d ∧ d ≤ 7) rfl c_7
    refine lv_aload_n hx hb dX5_skill_12 rfl (lv_at hl 0 rfl) ?_
    refine va_get (D := (dC, dI)) (ci := 4) (v := .ref (a 32)) (C := RX5) (T := TX5) (N := 41) hx hb hts in_X5 hown hK.1 hP 0 rfl rfl 32 (by decide) (hts _ q1124) (fun _ h9 => h9) rfl dX5_skill_13 ?_
    refine lv_iload_n hx hb dX5_skill_16 rfl (lv_at hl 1 rfl) ?_
    refine va_iald hx hb hK.1 hP 1 0 rfl rfl (in_lit (by decide) c_7) dX5_skill_17 ?_
    refine lv_if_ne (tgt := 26) hx hb dX5_skill_18 (by decide) (fun c_18 => ?_) (fun c_18 => ?_)
    · skip
      refine lv_aload_n hx hb dX5_skill_26 rfl (lv_at hl 0 rfl) ?_
      refine va_get (D := (dC, dI)) (ci := 4) (v := .ref (a 32)) (C := RX5) (T := TX5) (N := 41) hx hb hts in_X5 hown hK.1 hP 0 rfl rfl 32 (by decide) (hts _ q1124) (fun _ h9 => h9) rfl dX5_skill_27 ?_
      refine lv_iload_n hx hb dX5_skill_30 rfl (lv_at hl 1 rfl) ?_
      refine va_iald hx hb hK.1 hP 1 0 rfl rfl (in_lit (by decide) c_7) dX5_skill_31 ?_
      refine lv_iconst (v := 2) hx hb dX5_skill_32 (by decide) ?_
      refine lv_icmp_ne (tgt := 41) hx hb dX5_skill_33 (by decide) (fun c_33 => ?_) (fun c_33 => ?_)
      · skip
        refine lv_aload_n hx hb dX5_skill_41 rfl (lv_at hl 0 rfl) ?_
        refine lv_iload_n hx hb dX5_skill_42 rfl (lv_at hl 1 rfl) ?_
        refine ro_V (rest := []) (As := [.int d]) (wc := [(m0, .inr (4, moF a v)), ((a 38), .inl (dA 0, 8, .inl kio)), ((a 39), .inl (dA 0, 8, .inl fio))]) ⟨hx, hb, hml, hown, hts⟩ (met_X5_skillOf m0 a v kio fio d c_7) (cwV 1 hts (lw_V q1466 q1468 qs40 q46 q1469) rfl rfl rfl hdV_X5_skillOf ⟨Nat.le_of_ble_eq_true rfl, Nat.le_of_ble_eq_true rfl⟩) hK hP [0, 2, 3] rfl (va_recv hK.1 hP (ci := 4) (q0 := 0) rfl rfl) rfl hl.1 rfl (Nat.le_of_ble_eq_true rfl) dX5_skill_43 ⟨Nat.zero_le _, Nat.zero_le _⟩ (fun r_43 h_43 => ?_)
        obtain rfl : r_43 = sp_skOf (kio d.toNatClampNeg) (fio d.toNatClampNeg) := h_43
        refine rt_si hx hb hr hlocks dX5_skill_46 ?_
        clear hl hP hK hts
        grind [sp_skill]
      · skip
        refine lv_bipush (v := (-12)) hx hb dX5_skill_36 (by decide) ?_
        refine lv_goto (tgt := 46) hx hb dX5_skill_38 (by decide) ?_
        refine rt_si hx hb hr hlocks dX5_skill_46 ?_
        clear hl hP hK hts
        grind [sp_skill]
    · skip
      refine lv_bipush (v := (-11)) hx hb dX5_skill_21 (by decide) ?_
      refine lv_goto (tgt := 46) hx hb dX5_skill_23 (by decide) ?_
      refine rt_si hx hb hr hlocks dX5_skill_46 ?_
      clear hl hP hK hts
      grind [sp_skill]
  · skip
    have c_7 := bI_eq0 (P := 0 ≤ d ∧ d ≤ 7) rfl c_7
    refine lv_iconst (v := (-1)) hx hb dX5_skill_10 (by decide) ?_
    refine rt_si hx hb hr hlocks dX5_skill_11 ?_
    clear hl hP hK hts
    grind [sp_skill]
theorem hdS_X5_toss : yX5_toss.cls ≠ "java/lang/invoke/MethodHandle" ∧ yX5_toss.cls ≠ "java/lang/invoke/VarHandle" ∧ (parseMethodDescriptor yX5_toss.desc).map (fun d => d.parameters.length) = some 1 := by decide +kernel
theorem hdV_X5_toss : yX5_toss.cls = RX5 ∧ yX5_toss.cls ≠ "java/lang/invoke/MethodHandle" ∧ yX5_toss.cls ≠ "java/lang/invoke/VarHandle" ∧ (parseMethodDescriptor yX5_toss.desc).map (fun d => d.parameters.length) = some 1 := ⟨rfl, hdS_X5_toss⟩
set_option maxHeartbeats 4000000 in
set_option maxRecDepth 100000 in
theorem met_X5_toss {l : Launch} {dC : Nat → ClassId} {dI : Nat → Nat → Nat} {dA : Nat → ClassId} (m0 : Nat) (a : Nat → Nat) (v : Nat → Int32) (hol : Nat → Int32) (nuo : Nat → Int32) (kio : Nat → Int32) (fio : Nat → Int32) (d : Int32)  : Met l yX5_toss (ws_ yX5_toss cX5_toss 2 (some .int)) ({ frames := 3, cells := 0, slots := 0, locals := 128 } : Room) (RoP dC dI dA [.ref m0, .int d] [(m0, .inr (4, moF a v)), ((a 32), .inl (dA 0, 8, .inl hol)), ((a 37), .inl (dA 0, 8, .inl nuo)), ((a 38), .inl (dA 0, 8, .inl kio)), ((a 39), .inl (dA 0, 8, .inl fio))]) (vp_Si (fun r => r = sp_toss hol nuo kio fio d)) 0 0 (fun _ => False) := by
  refine ofRo (cc := cX5_toss) (maxL := 2) (ret := (some .int)) (by decide) rfl (fun w h => List.mem_cons_of_mem _ h) (Nat.le_of_ble_eq_true rfl) ?_
  intro p e s m below meth c ls hx hb hr hlocks hml hts hown hP hK hl
  have hown : s.vm.findClass RX5 = some m.cls := hown
  have hl : lv_has ls 2 [(0, .ref m0), (1, .int d)] := hl
  refine lv_iload_n hx hb dX5_toss_0 rfl (lv_at hl 1 rfl) ?_
  refine lv_iconst (v := 0) hx hb dX5_toss_1 (by decide) ?_
  refine lv_bipush (v := 7) hx hb dX5_toss_2 (by decide) ?_
  refine ro_S (rest := []) (As := [.int d, .int 0, .int 7]) (wc := []) ⟨hx, hb, hml, hown, hts⟩ (met_X5_isIn d 0 7) (va_cwS 3 hts (lw_S q1234 q1235 q46 q1236) rfl rfl rfl hdS_X5_isIn ⟨Nat.le_of_ble_eq_true rfl, Nat.le_of_ble_eq_true rfl⟩) hK hP [] rfl rfl hl.1 rfl (Nat.le_of_ble_eq_true rfl) dX5_toss_4 ⟨Nat.zero_le _, Nat.zero_le _⟩ (fun r_4 h_4 => ?_)
  obtain rfl : r_4 = bI (0 ≤ d ∧ d ≤ 7) := h_4
  refine lv_if_ne (tgt := 12) hx hb dX5_toss_7 (by decide) (fun c_7 => ?_) (fun c_7 => ?_)
  · skip
    have c_7 := bI_ne0 (P := 0 ≤ d ∧ d ≤ 7) rfl c_7
    refine lv_aload_n hx hb dX5_toss_12 rfl (lv_at hl 0 rfl) ?_
    refine va_get (D := (dC, dI)) (ci := 4) (v := .ref (a 32)) (C := RX5) (T := TX5) (N := 41) hx hb hts in_X5 hown hK.1 hP 0 rfl rfl 32 (by decide) (hts _ q1124) (fun _ h9 => h9) rfl dX5_toss_13 ?_
    refine lv_iload_n hx hb dX5_toss_16 rfl (lv_at hl 1 rfl) ?_
    refine va_iald hx hb hK.1 hP 1 0 rfl rfl (in_lit (by decide) c_7) dX5_toss_17 ?_
    refine lv_iconst (v := 1) hx hb dX5_toss_18 (by decide) ?_
    refine lv_icmp_eq (tgt := 39) hx hb dX5_toss_19 (by decide) (fun c_19 => ?_) (fun c_19 => ?_)
    · skip
      refine lv_aload_n hx hb dX5_toss_39 rfl (lv_at hl 0 rfl) ?_
      refine va_get (D := (dC, dI)) (ci := 4) (v := .ref (a 38)) (C := RX5) (T := TX5) (N := 41) hx hb hts in_X5 hown hK.1 hP 0 rfl rfl 38 (by decide) (hts _ q1130) (fun _ h9 => h9) rfl dX5_toss_40 ?_
      refine lv_iload_n hx hb dX5_toss_43 rfl (lv_at hl 1 rfl) ?_
      refine va_iald hx hb hK.1 hP 3 0 rfl rfl (in_lit (by decide) c_7) dX5_toss_44 ?_
      refine lv_bipush (v := 6) hx hb dX5_toss_45 (by decide) ?_
      refine lv_icmp_eq (tgt := 59) hx hb dX5_toss_47 (by decide) (fun c_47 => ?_) (fun c_47 => ?_)
      · skip
        refine lv_bipush (v := (-15)) hx hb dX5_toss_59 (by decide) ?_
        refine rt_si hx hb hr hlocks dX5_toss_61 ?_
        clear hl hP hK hts
        grind [sp_toss, sp_tosOf]
      · skip
        refine lv_aload_n hx hb dX5_toss_50 rfl (lv_at hl 0 rfl) ?_
        refine va_get (D := (dC, dI)) (ci := 4) (v := .ref (a 39)) (C := RX5) (T := TX5) (N := 41) hx hb hts in_X5 hown hK.1 hP 0 rfl rfl 39 (by decide) (hts _ q1131) (fun _ h9 => h9) rfl dX5_toss_51 ?_
        refine lv_iload_n hx hb dX5_toss_54 rfl (lv_at hl 1 rfl) ?_
        refine va_iald hx hb hK.1 hP 4 0 rfl rfl (in_lit (by decide) c_7) dX5_toss_55 ?_
        refine lv_if_ne (tgt := 62) hx hb dX5_toss_56 (by decide) (fun c_56 => ?_) (fun c_56 => ?_)
        · skip
          refine lv_aload_n hx hb dX5_toss_62 rfl (lv_at hl 0 rfl) ?_
          refine va_get (D := (dC, dI)) (ci := 4) (v := .ref (a 38)) (C := RX5) (T := TX5) (N := 41) hx hb hts in_X5 hown hK.1 hP 0 rfl rfl 38 (by decide) (hts _ q1130) (fun _ h9 => h9) rfl dX5_toss_63 ?_
          refine lv_iload_n hx hb dX5_toss_66 rfl (lv_at hl 1 rfl) ?_
          refine va_iald hx hb hK.1 hP 3 0 rfl rfl (in_lit (by decide) c_7) dX5_toss_67 ?_
          refine lv_iconst (v := 4) hx hb dX5_toss_68 (by decide) ?_
          refine lv_icmp_ne (tgt := 84) hx hb dX5_toss_69 (by decide) (fun c_69 => ?_) (fun c_69 => ?_)
          · skip
            refine lv_aload_n hx hb dX5_toss_84 rfl (lv_at hl 0 rfl) ?_
            refine va_get (D := (dC, dI)) (ci := 4) (v := .ref (a 38)) (C := RX5) (T := TX5) (N := 41) hx hb hts in_X5 hown hK.1 hP 0 rfl rfl 38 (by decide) (hts _ q1130) (fun _ h9 => h9) rfl dX5_toss_85 ?_
            refine lv_iload_n hx hb dX5_toss_88 rfl (lv_at hl 1 rfl) ?_
            refine va_iald hx hb hK.1 hP 3 0 rfl rfl (in_lit (by decide) c_7) dX5_toss_89 ?_
            refine lv_bipush (v := 7) hx hb dX5_toss_90 (by decide) ?_
            refine lv_icmp_ne (tgt := 107) hx hb dX5_toss_92 (by decide) (fun c_92 => ?_) (fun c_92 => ?_)
            · skip
              refine lv_aload_n hx hb dX5_toss_107 rfl (lv_at hl 0 rfl) ?_
              refine va_get (D := (dC, dI)) (ci := 4) (v := .ref (a 37)) (C := RX5) (T := TX5) (N := 41) hx hb hts in_X5 hown hK.1 hP 0 rfl rfl 37 (by decide) (hts _ q1129) (fun _ h9 => h9) rfl dX5_toss_108 ?_
              refine lv_iload_n hx hb dX5_toss_111 rfl (lv_at hl 1 rfl) ?_
              refine va_iald hx hb hK.1 hP 2 0 rfl rfl (in_lit (by decide) c_7) dX5_toss_112 ?_
              refine rt_si hx hb hr hlocks dX5_toss_113 ?_
              clear hl hP hK hts
              grind [sp_toss, sp_tosOf]
            · skip
              refine lv_sipush (v := 200) hx hb dX5_toss_95 (by decide) ?_
              refine lv_aload_n hx hb dX5_toss_98 rfl (lv_at hl 0 rfl) ?_
              refine lv_iload_n hx hb dX5_toss_99 rfl (lv_at hl 1 rfl) ?_
              refine ro_V (rest := [.int 200]) (As := [.int d]) (wc := [(m0, .inr (4, moF a v)), ((a 38), .inl (dA 0, 8, .inl kio)), ((a 39), .inl (dA 0, 8, .inl fio))]) ⟨hx, hb, hml, hown, hts⟩ (met_X5_skillOf m0 a v kio fio d c_7) (cwV 1 hts (lw_V q1466 q1468 qs40 q46 q1469) rfl rfl rfl hdV_X5_skillOf ⟨Nat.le_of_ble_eq_true rfl, Nat.le_of_ble_eq_true rfl⟩) hK hP [0, 3, 4] rfl (va_recv hK.1 hP (ci := 4) (q0 := 0) rfl rfl) rfl hl.1 rfl (Nat.le_of_ble_eq_true rfl) dX5_toss_100 ⟨Nat.zero_le _, Nat.zero_le _⟩ (fun r_100 h_100 => ?_)
              obtain rfl : r_100 = sp_skOf (kio d.toNatClampNeg) (fio d.toNatClampNeg) := h_100
              refine lv_iadd hx hb dX5_toss_103 ?_
              refine lv_goto (tgt := 113) hx hb dX5_toss_104 (by decide) ?_
              refine rt_si hx hb hr hlocks dX5_toss_113 ?_
              clear hl hP hK hts
              grind [sp_toss, sp_tosOf]
          · skip
            refine lv_bipush (v := 100) hx hb dX5_toss_72 (by decide) ?_
            refine lv_aload_n hx hb dX5_toss_74 rfl (lv_at hl 0 rfl) ?_
            refine va_get (D := (dC, dI)) (ci := 4) (v := .ref (a 37)) (C := RX5) (T := TX5) (N := 41) hx hb hts in_X5 hown hK.1 hP 0 rfl rfl 37 (by decide) (hts _ q1129) (fun _ h9 => h9) rfl dX5_toss_75 ?_
            refine lv_iload_n hx hb dX5_toss_78 rfl (lv_at hl 1 rfl) ?_
            refine va_iald hx hb hK.1 hP 2 0 rfl rfl (in_lit (by decide) c_7) dX5_toss_79 ?_
            refine lv_iadd hx hb dX5_toss_80 ?_
            refine lv_goto (tgt := 113) hx hb dX5_toss_81 (by decide) ?_
            refine rt_si hx hb hr hlocks dX5_toss_113 ?_
            clear hl hP hK hts
            grind [sp_toss, sp_tosOf]
        · skip
          refine lv_bipush (v := (-15)) hx hb dX5_toss_59 (by decide) ?_
          refine rt_si hx hb hr hlocks dX5_toss_61 ?_
          clear hl hP hK hts
          grind [sp_toss, sp_tosOf]
    · skip
      refine lv_aload_n hx hb dX5_toss_22 rfl (lv_at hl 0 rfl) ?_
      refine va_get (D := (dC, dI)) (ci := 4) (v := .ref (a 32)) (C := RX5) (T := TX5) (N := 41) hx hb hts in_X5 hown hK.1 hP 0 rfl rfl 32 (by decide) (hts _ q1124) (fun _ h9 => h9) rfl dX5_toss_23 ?_
      refine lv_iload_n hx hb dX5_toss_26 rfl (lv_at hl 1 rfl) ?_
      refine va_iald hx hb hK.1 hP 1 0 rfl rfl (in_lit (by decide) c_7) dX5_toss_27 ?_
      refine lv_if_ne (tgt := 36) hx hb dX5_toss_28 (by decide) (fun c_28 => ?_) (fun c_28 => ?_)
      · skip
        refine lv_bipush (v := (-12)) hx hb dX5_toss_36 (by decide) ?_
        refine rt_si hx hb hr hlocks dX5_toss_38 ?_
        clear hl hP hK hts
        grind [sp_toss, sp_tosOf]
      · skip
        refine lv_bipush (v := (-11)) hx hb dX5_toss_31 (by decide) ?_
        refine lv_goto (tgt := 38) hx hb dX5_toss_33 (by decide) ?_
        refine rt_si hx hb hr hlocks dX5_toss_38 ?_
        clear hl hP hK hts
        grind [sp_toss, sp_tosOf]
  · skip
    have c_7 := bI_eq0 (P := 0 ≤ d ∧ d ≤ 7) rfl c_7
    refine lv_iconst (v := (-1)) hx hb dX5_toss_10 (by decide) ?_
    refine rt_si hx hb hr hlocks dX5_toss_11 ?_
    clear hl hP hK hts
    grind [sp_toss, sp_tosOf]
theorem hdS_X5_copy : yX5_copy.cls ≠ "java/lang/invoke/MethodHandle" ∧ yX5_copy.cls ≠ "java/lang/invoke/VarHandle" ∧ (parseMethodDescriptor yX5_copy.desc).map (fun d => d.parameters.length) = some 5 := by decide +kernel
theorem hdV_X5_copy : yX5_copy.cls = RX5 ∧ yX5_copy.cls ≠ "java/lang/invoke/MethodHandle" ∧ yX5_copy.cls ≠ "java/lang/invoke/VarHandle" ∧ (parseMethodDescriptor yX5_copy.desc).map (fun d => d.parameters.length) = some 5 := ⟨rfl, hdS_X5_copy⟩
set_option maxHeartbeats 4000000 in
set_option maxRecDepth 100000 in
theorem met_X5_copy {l : Launch} {dC : Nat → ClassId} {dI : Nat → Nat → Nat} {dA : Nat → ClassId} (sz : Nat) (m0 : Nat) (a : Nat → Nat) (v : Nat → Int32) (zn : Nat → Nat) (hol : Nat → Int32) (sor : Nat → Int32) (itm : Nat → Int32) (mvd : Nat → Int32) (d : Int32) (i : Int32) (e0 : Int32) (j : Int32) (n : Int32) (hz : ∀ d, d < 8 → zn d ≤ 100) : Met l yX5_copy (ws_ yX5_copy cX5_copy 7 (some .int)) ({ frames := 4, cells := 0, slots := 0, locals := 192 } : Room) (RwP dC dI dA [.ref m0, .int d, .int i, .int e0, .int j, .int n] [(m0, .inr (4, moF a v)), ((a 32), .inl (dA 0, 8, .inl hol)), ((a 33), .inl (dA 0, 8, .inl sor)), ((a 34), .inl (dA 0, 8, .inl (nF zn))), ((a 35), .inl (dA 0, 800, .inl itm)), ((a 36), .inl (dA 0, 100, .inl mvd))] sz) (va_Qi (fun (r : Int32) (u : (Nat → Int32) × (Nat → Int32)) => r = sp_copyr hol sor (nF zn) d i e0 j n ∧ (sp_copyok hol sor (nF zn) d i e0 j n → u.1 = va_cpy itm itm (100 * d.toNatClampNeg + i.toNatClampNeg) (100 * e0.toNatClampNeg + j.toNatClampNeg) n.toNatClampNeg) ∧ (¬ sp_copyok hol sor (nF zn) d i e0 j n → u.1 = itm)) (RwB dC dI (va_A [(m0, .inr (4, moF a v)), ((a 32), .inl (dA 0, 8, .inl hol)), ((a 33), .inl (dA 0, 8, .inl sor)), ((a 34), .inl (dA 0, 8, .inl (nF zn))), ((a 35), .inl (dA 0, 800, .inl itm)), ((a 36), .inl (dA 0, 100, .inl mvd))] sz) (fun (u : (Nat → Int32) × (Nat → Int32)) => [(m0, .inr (4, moF a v)), ((a 32), .inl (dA 0, 8, .inl hol)), ((a 33), .inl (dA 0, 8, .inl sor)), ((a 34), .inl (dA 0, 8, .inl (nF zn))), ((a 35), .inl (dA 0, 800, .inl u.1)), ((a 36), .inl (dA 0, 100, .inl u.2))])) (va_A [(m0, .inr (4, moF a v)), ((a 32), .inl (dA 0, 8, .inl hol)), ((a 33), .inl (dA 0, 8, .inl sor)), ((a 34), .inl (dA 0, 8, .inl (nF zn))), ((a 35), .inl (dA 0, 800, .inl itm)), ((a 36), .inl (dA 0, 100, .inl mvd))] sz)) 0 0 (va_A [(m0, .inr (4, moF a v)), ((a 32), .inl (dA 0, 8, .inl hol)), ((a 33), .inl (dA 0, 8, .inl sor)), ((a 34), .inl (dA 0, 8, .inl (nF zn))), ((a 35), .inl (dA 0, 800, .inl itm)), ((a 36), .inl (dA 0, 100, .inl mvd))] sz) := by
  refine ofRw (cc := cX5_copy) (maxL := 7) (ret := (some .int)) (Qf := fun A => va_Qi (fun (r : Int32) (u : (Nat → Int32) × (Nat → Int32)) => r = sp_copyr hol sor (nF zn) d i e0 j n ∧ (sp_copyok hol sor (nF zn) d i e0 j n → u.1 = va_cpy itm itm (100 * d.toNatClampNeg + i.toNatClampNeg) (100 * e0.toNatClampNeg + j.toNatClampNeg) n.toNatClampNeg) ∧ (¬ sp_copyok hol sor (nF zn) d i e0 j n → u.1 = itm)) (RwB dC dI A (fun (u : (Nat → Int32) × (Nat → Int32)) => [(m0, .inr (4, moF a v)), ((a 32), .inl (dA 0, 8, .inl hol)), ((a 33), .inl (dA 0, 8, .inl sor)), ((a 34), .inl (dA 0, 8, .inl (nF zn))), ((a 35), .inl (dA 0, 800, .inl u.1)), ((a 36), .inl (dA 0, 100, .inl u.2))])) A) (by decide) rfl (fun w h => List.mem_cons_of_mem _ h) (Nat.le_of_ble_eq_true rfl) ?_
  intro p e s m below meth c ls A hx hb hr hlocks hml hts hown hP hK hD hA hnm hsz hl
  have hS : va_S A s.heap s.heap [] := va_S.rf
  obtain ⟨H, hHe⟩ : ∃ H, H = s.heap := ⟨_, rfl⟩
  obtain ⟨locs, hlo⟩ : ∃ z : List Loc, z = [] := ⟨_, rfl⟩
  have hS : va_S A s.heap H locs := by rw [hHe, hlo]; exact hS
  suffices K0 : W p l e _ s m _ below meth c H locs 0 0 _ _ by rw [hHe, hlo] at K0; exact K0
  rw [← hHe] at hP
  have hown : s.vm.findClass RX5 = some m.cls := hown
  have hl : lv_has ls 7 [(0, .ref m0), (1, .int d), (2, .int i), (3, .int e0), (4, .int j), (5, .int n)] := hl
  refine lv_iload_n hx hb dX5_copy_0 rfl (lv_at hl 1 rfl) ?_
  refine lv_iconst (v := 0) hx hb dX5_copy_1 (by decide) ?_
  refine lv_bipush (v := 7) hx hb dX5_copy_2 (by decide) ?_
  refine ro_S (rest := []) (As := [.int d, .int 0, .int 7]) (wc := []) ⟨hx, hb, hml, hown, hts⟩ (met_X5_isIn d 0 7) (va_cwS 3 hts (lw_S q1234 q1235 q46 q1236) rfl rfl rfl hdS_X5_isIn ⟨Nat.le_of_ble_eq_true rfl, Nat.le_of_ble_eq_true rfl⟩) hK hP [] rfl rfl hl.1 rfl (Nat.le_of_ble_eq_true rfl) dX5_copy_4 ⟨Nat.le_of_ble_eq_true rfl, Nat.le_of_ble_eq_true rfl⟩ (fun r_4 h_4 => ?_)
  obtain rfl : r_4 = bI (0 ≤ d ∧ d ≤ 7) := h_4
  refine lv_if_eq (tgt := 20) hx hb dX5_copy_7 (by decide) (fun c_7 => ?_) (fun c_7 => ?_)
  · skip
    have c_7 := bI_eq0 (P := 0 ≤ d ∧ d ≤ 7) rfl c_7
    refine lv_iconst (v := (-1)) hx hb dX5_copy_20 (by decide) ?_
    refine rt_i hx hb hr hlocks dX5_copy_21 hP hD hS (Nat.le_of_ble_eq_true rfl) (Nat.le_of_ble_eq_true rfl) (itm, mvd) [0, 1, 2, 3, 4, 5] rfl (by decide) ?_
    clear hl hP hD hK hts hS
    grind [sp_copyr, sp_copyok]
  · skip
    have c_7 := bI_ne0 (P := 0 ≤ d ∧ d ≤ 7) rfl c_7
    refine lv_iload_n hx hb dX5_copy_10 rfl (lv_at hl 3 rfl) ?_
    refine lv_iconst (v := 0) hx hb dX5_copy_11 (by decide) ?_
    refine lv_bipush (v := 7) hx hb dX5_copy_12 (by decide) ?_
    refine ro_S (rest := []) (As := [.int e0, .int 0, .int 7]) (wc := []) ⟨hx, hb, hml, hown, hts⟩ (met_X5_isIn e0 0 7) (va_cwS 3 hts (lw_S q1234 q1235 q46 q1236) rfl rfl rfl hdS_X5_isIn ⟨Nat.le_of_ble_eq_true rfl, Nat.le_of_ble_eq_true rfl⟩) hK hP [] rfl rfl hl.1 rfl (Nat.le_of_ble_eq_true rfl) dX5_copy_14 ⟨Nat.le_of_ble_eq_true rfl, Nat.le_of_ble_eq_true rfl⟩ (fun r_14 h_14 => ?_)
    obtain rfl : r_14 = bI (0 ≤ e0 ∧ e0 ≤ 7) := h_14
    refine lv_if_ne (tgt := 22) hx hb dX5_copy_17 (by decide) (fun c_17 => ?_) (fun c_17 => ?_)
    · skip
      have c_17 := bI_ne0 (P := 0 ≤ e0 ∧ e0 ≤ 7) rfl c_17
      obtain ⟨dd, hdd, rfl⟩ := ix_lit 8 (by decide) (by decide) c_7
      have e_dd : (nI dd).toNatClampNeg = dd := nI_clamp (by omega)
      obtain ⟨ee, hee, rfl⟩ := ix_lit 8 (by decide) (by decide) c_17
      have e_ee : (nI ee).toNatClampNeg = ee := nI_clamp (by omega)
      have hzd := hz dd hdd
      have hze := hz ee hee
      refine lv_aload_n hx hb dX5_copy_22 rfl (lv_at hl 0 rfl) ?_
      refine va_get (D := (dC, dI)) (ci := 4) (v := .ref (a 32)) (C := RX5) (T := TX5) (N := 41) hx hb hts in_X5 hown hK.1 hP 0 rfl rfl 32 (by decide) (hts _ q1124) (fun _ h9 => h9) rfl dX5_copy_23 ?_
      refine lv_iload_n hx hb dX5_copy_26 rfl (lv_at hl 1 rfl) ?_
      refine va_iald hx hb hK.1 hP 1 0 rfl rfl (vp_in_nI (by omega) (by omega)) dX5_copy_27 ?_
      refine lv_eqi (y := (hol dd)) (congrArg hol (nI_clamp (by omega))) ?_
      refine lv_if_eq (tgt := 40) hx hb dX5_copy_28 (by decide) (fun c_28 => ?_) (fun c_28 => ?_)
      · skip
        refine lv_bipush (v := (-11)) hx hb dX5_copy_40 (by decide) ?_
        refine rt_i hx hb hr hlocks dX5_copy_42 hP hD hS (Nat.le_of_ble_eq_true rfl) (Nat.le_of_ble_eq_true rfl) (itm, mvd) [0, 1, 2, 3, 4, 5] rfl (by decide) ?_
        clear hl hP hD hK hts hS
        grind [sp_copyr, sp_copyok]
      · skip
        refine lv_aload_n hx hb dX5_copy_31 rfl (lv_at hl 0 rfl) ?_
        refine va_get (D := (dC, dI)) (ci := 4) (v := .ref (a 32)) (C := RX5) (T := TX5) (N := 41) hx hb hts in_X5 hown hK.1 hP 0 rfl rfl 32 (by decide) (hts _ q1124) (fun _ h9 => h9) rfl dX5_copy_32 ?_
        refine lv_iload_n hx hb dX5_copy_35 rfl (lv_at hl 3 rfl) ?_
        refine va_iald hx hb hK.1 hP 1 0 rfl rfl (vp_in_nI (by omega) (by omega)) dX5_copy_36 ?_
        refine lv_eqi (y := (hol ee)) (congrArg hol (nI_clamp (by omega))) ?_
        refine lv_if_ne (tgt := 43) hx hb dX5_copy_37 (by decide) (fun c_37 => ?_) (fun c_37 => ?_)
        · skip
          refine lv_aload_n hx hb dX5_copy_43 rfl (lv_at hl 0 rfl) ?_
          refine va_get (D := (dC, dI)) (ci := 4) (v := .ref (a 32)) (C := RX5) (T := TX5) (N := 41) hx hb hts in_X5 hown hK.1 hP 0 rfl rfl 32 (by decide) (hts _ q1124) (fun _ h9 => h9) rfl dX5_copy_44 ?_
          refine lv_iload_n hx hb dX5_copy_47 rfl (lv_at hl 1 rfl) ?_
          refine va_iald hx hb hK.1 hP 1 0 rfl rfl (vp_in_nI (by omega) (by omega)) dX5_copy_48 ?_
          refine lv_eqi (y := (hol dd)) (congrArg hol (nI_clamp (by omega))) ?_
          refine lv_iconst (v := 1) hx hb dX5_copy_49 (by decide) ?_
          refine lv_icmp_eq (tgt := 78) hx hb dX5_copy_50 (by decide) (fun c_50 => ?_) (fun c_50 => ?_)
          · skip
            refine lv_bipush (v := (-12)) hx hb dX5_copy_78 (by decide) ?_
            refine rt_i hx hb hr hlocks dX5_copy_80 hP hD hS (Nat.le_of_ble_eq_true rfl) (Nat.le_of_ble_eq_true rfl) (itm, mvd) [0, 1, 2, 3, 4, 5] rfl (by decide) ?_
            clear hl hP hD hK hts hS
            grind [sp_copyr, sp_copyok]
          · skip
            refine lv_aload_n hx hb dX5_copy_53 rfl (lv_at hl 0 rfl) ?_
            refine va_get (D := (dC, dI)) (ci := 4) (v := .ref (a 32)) (C := RX5) (T := TX5) (N := 41) hx hb hts in_X5 hown hK.1 hP 0 rfl rfl 32 (by decide) (hts _ q1124) (fun _ h9 => h9) rfl dX5_copy_54 ?_
            refine lv_iload_n hx hb dX5_copy_57 rfl (lv_at hl 3 rfl) ?_
            refine va_iald hx hb hK.1 hP 1 0 rfl rfl (vp_in_nI (by omega) (by omega)) dX5_copy_58 ?_
            refine lv_eqi (y := (hol ee)) (congrArg hol (nI_clamp (by omega))) ?_
            refine lv_iconst (v := 1) hx hb dX5_copy_59 (by decide) ?_
            refine lv_icmp_eq (tgt := 78) hx hb dX5_copy_60 (by decide) (fun c_60 => ?_) (fun c_60 => ?_)
            · skip
              refine lv_bipush (v := (-12)) hx hb dX5_copy_78 (by decide) ?_
              refine rt_i hx hb hr hlocks dX5_copy_80 hP hD hS (Nat.le_of_ble_eq_true rfl) (Nat.le_of_ble_eq_true rfl) (itm, mvd) [0, 1, 2, 3, 4, 5] rfl (by decide) ?_
              clear hl hP hD hK hts hS
              grind [sp_copyr, sp_copyok]
            · skip
              refine lv_aload_n hx hb dX5_copy_63 rfl (lv_at hl 0 rfl) ?_
              refine va_get (D := (dC, dI)) (ci := 4) (v := .ref (a 33)) (C := RX5) (T := TX5) (N := 41) hx hb hts in_X5 hown hK.1 hP 0 rfl rfl 33 (by decide) (hts _ q1125) (fun _ h9 => h9) rfl dX5_copy_64 ?_
              refine lv_iload_n hx hb dX5_copy_67 rfl (lv_at hl 1 rfl) ?_
              refine va_iald hx hb hK.1 hP 2 0 rfl rfl (vp_in_nI (by omega) (by omega)) dX5_copy_68 ?_
              refine lv_eqi (y := (sor dd)) (congrArg sor (nI_clamp (by omega))) ?_
              refine lv_aload_n hx hb dX5_copy_69 rfl (lv_at hl 0 rfl) ?_
              refine va_get (D := (dC, dI)) (ci := 4) (v := .ref (a 33)) (C := RX5) (T := TX5) (N := 41) hx hb hts in_X5 hown hK.1 hP 0 rfl rfl 33 (by decide) (hts _ q1125) (fun _ h9 => h9) rfl dX5_copy_70 ?_
              refine lv_iload_n hx hb dX5_copy_73 rfl (lv_at hl 3 rfl) ?_
              refine va_iald hx hb hK.1 hP 2 0 rfl rfl (vp_in_nI (by omega) (by omega)) dX5_copy_74 ?_
              refine lv_eqi (y := (sor ee)) (congrArg sor (nI_clamp (by omega))) ?_
              refine lv_icmp_eq (tgt := 81) hx hb dX5_copy_75 (by decide) (fun c_75 => ?_) (fun c_75 => ?_)
              · skip
                refine lv_iload hx hb dX5_copy_81 (lv_at hl 5 rfl) ?_
                refine lv_if_lt (tgt := 122) hx hb dX5_copy_83 (by decide) (fun c_83 => ?_) (fun c_83 => ?_)
                · skip
                  refine lv_bipush (v := (-13)) hx hb dX5_copy_122 (by decide) ?_
                  refine rt_i hx hb hr hlocks dX5_copy_124 hP hD hS (Nat.le_of_ble_eq_true rfl) (Nat.le_of_ble_eq_true rfl) (itm, mvd) [0, 1, 2, 3, 4, 5] rfl (by decide) ?_
                  clear hl hP hD hK hts hS
                  grind [sp_copyr, sp_copyok, nF]
                · skip
                  refine lv_iload_n hx hb dX5_copy_86 rfl (lv_at hl 2 rfl) ?_
                  refine lv_if_lt (tgt := 122) hx hb dX5_copy_87 (by decide) (fun c_87 => ?_) (fun c_87 => ?_)
                  · skip
                    refine lv_bipush (v := (-13)) hx hb dX5_copy_122 (by decide) ?_
                    refine rt_i hx hb hr hlocks dX5_copy_124 hP hD hS (Nat.le_of_ble_eq_true rfl) (Nat.le_of_ble_eq_true rfl) (itm, mvd) [0, 1, 2, 3, 4, 5] rfl (by decide) ?_
                    clear hl hP hD hK hts hS
                    grind [sp_copyr, sp_copyok, nF]
                  · skip
                    refine lv_iload hx hb dX5_copy_90 (lv_at hl 4 rfl) ?_
                    refine lv_if_lt (tgt := 122) hx hb dX5_copy_92 (by decide) (fun c_92 => ?_) (fun c_92 => ?_)
                    · skip
                      refine lv_bipush (v := (-13)) hx hb dX5_copy_122 (by decide) ?_
                      refine rt_i hx hb hr hlocks dX5_copy_124 hP hD hS (Nat.le_of_ble_eq_true rfl) (Nat.le_of_ble_eq_true rfl) (itm, mvd) [0, 1, 2, 3, 4, 5] rfl (by decide) ?_
                      clear hl hP hD hK hts hS
                      grind [sp_copyr, sp_copyok, nF]
                    · skip
                      refine lv_iload hx hb dX5_copy_95 (lv_at hl 5 rfl) ?_
                      refine lv_aload_n hx hb dX5_copy_97 rfl (lv_at hl 0 rfl) ?_
                      refine va_get (D := (dC, dI)) (ci := 4) (v := .ref (a 34)) (C := RX5) (T := TX5) (N := 41) hx hb hts in_X5 hown hK.1 hP 0 rfl rfl 34 (by decide) (hts _ q1126) (fun _ h9 => h9) rfl dX5_copy_98 ?_
                      refine lv_iload_n hx hb dX5_copy_101 rfl (lv_at hl 1 rfl) ?_
                      refine va_iald hx hb hK.1 hP 3 0 rfl rfl (vp_in_nI (by omega) (by omega)) dX5_copy_102 ?_
                      refine lv_eqi (y := (nI (zn dd))) (congrArg (nF zn) (nI_clamp (by omega))) ?_
                      refine lv_iload_n hx hb dX5_copy_103 rfl (lv_at hl 2 rfl) ?_
                      refine lv_isub hx hb dX5_copy_104 ?_
                      refine lv_icmp_gt (tgt := 122) hx hb dX5_copy_105 (by decide) (fun c_105 => ?_) (fun c_105 => ?_)
                      · skip
                        refine lv_bipush (v := (-13)) hx hb dX5_copy_122 (by decide) ?_
                        refine rt_i hx hb hr hlocks dX5_copy_124 hP hD hS (Nat.le_of_ble_eq_true rfl) (Nat.le_of_ble_eq_true rfl) (itm, mvd) [0, 1, 2, 3, 4, 5] rfl (by decide) ?_
                        clear hl hP hD hK hts hS
                        grind [sp_copyr, sp_copyok, nF]
                      · skip
                        refine lv_iload hx hb dX5_copy_108 (lv_at hl 5 rfl) ?_
                        refine lv_aload_n hx hb dX5_copy_110 rfl (lv_at hl 0 rfl) ?_
                        refine va_get (D := (dC, dI)) (ci := 4) (v := .ref (a 34)) (C := RX5) (T := TX5) (N := 41) hx hb hts in_X5 hown hK.1 hP 0 rfl rfl 34 (by decide) (hts _ q1126) (fun _ h9 => h9) rfl dX5_copy_111 ?_
                        refine lv_iload_n hx hb dX5_copy_114 rfl (lv_at hl 3 rfl) ?_
                        refine va_iald hx hb hK.1 hP 3 0 rfl rfl (vp_in_nI (by omega) (by omega)) dX5_copy_115 ?_
                        refine lv_eqi (y := (nI (zn ee))) (congrArg (nF zn) (nI_clamp (by omega))) ?_
                        refine lv_iload hx hb dX5_copy_116 (lv_at hl 4 rfl) ?_
                        refine lv_isub hx hb dX5_copy_118 ?_
                        refine lv_icmp_le (tgt := 125) hx hb dX5_copy_119 (by decide) (fun c_119 => ?_) (fun c_119 => ?_)
                        · skip
                          obtain ⟨ii, nn, hin, rfl, rfl⟩ := le_diff hzd c_83 c_87 c_105
                          obtain ⟨jj, n2, hjn, rfl, hn2⟩ := le_diff hze c_83 c_92 (show ¬ nI (zn ee) - j < nI nn from Int32.not_lt.mpr c_119)
                          obtain rfl : n2 = nn := (nI_eq (by omega) (by omega)).mp hn2.symm
                          have e_ii : (nI ii).toNatClampNeg = ii := nI_clamp (by omega)
                          have e_jj : (nI jj).toNatClampNeg = jj := nI_clamp (by omega)
                          have e_nn : (nI n2).toNatClampNeg = n2 := nI_clamp (by omega)
                          refine lv_iconst (v := 0) hx hb dX5_copy_125 (by decide) ?_
                          refine lv_istore (lv' := [(6, .int 0), (0, .ref m0), (1, .int (nI dd)), (2, .int (nI ii)), (3, .int (nI ee)), (4, .int (nI jj)), (5, .int (nI n2))]) hx hb dX5_copy_126 hl (by decide) rfl (fun ls hl => ?_)
                          rw [← cp_0 itm mvd (100 * dd + ii) 0] at hP hD
                          have K_128 : ∀ (fuel : Nat), ∀ (k : Nat), (k ≤ n2) → (n2 < k + fuel) → ∀ (H : Heap) (locs : List Loc) (ls : Array Slot), va_P (dC, dI) vwCl [(m0, .inr (4, moF a v)), ((a 32), .inl (dA 0, 8, .inl hol)), ((a 33), .inl (dA 0, 8, .inl sor)), ((a 34), .inl (dA 0, 8, .inl (nF zn))), ((a 35), .inl (dA 0, 800, .inl itm)), ((a 36), .inl (dA 0, 100, .inl (va_cpy itm mvd (100 * dd + ii) 0 k)))] H → va_D A [(m0, .inr (4, moF a v)), ((a 32), .inl (dA 0, 8, .inl hol)), ((a 33), .inl (dA 0, 8, .inl sor)), ((a 34), .inl (dA 0, 8, .inl (nF zn))), ((a 35), .inl (dA 0, 800, .inl itm)), ((a 36), .inl (dA 0, 100, .inl (va_cpy itm mvd (100 * dd + ii) 0 k)))] → va_S A s.heap H locs → lv_has ls 7 [(0, .ref m0), (1, .int (nI dd)), (2, .int (nI ii)), (3, .int (nI ee)), (4, .int (nI jj)), (5, .int (nI n2)), (6, .int (nI k))] → W p l e ({ frames := 4, cells := 0, slots := 0, locals := 192 } : Room) s m ([.ref m0, .int (nI dd), .int (nI ii), .int (nI ee), .int (nI jj), .int (nI n2)] : List Value).toArray below meth c H locs 0 0 (MQ below (va_Qi (fun (r : Int32) (u : (Nat → Int32) × (Nat → Int32)) => r = sp_copyr hol sor (nF zn) (nI dd) (nI ii) (nI ee) (nI jj) (nI n2) ∧ (sp_copyok hol sor (nF zn) (nI dd) (nI ii) (nI ee) (nI jj) (nI n2) → u.1 = va_cpy itm itm (100 * (nI dd).toNatClampNeg + (nI ii).toNatClampNeg) (100 * (nI ee).toNatClampNeg + (nI jj).toNatClampNeg) (nI n2).toNatClampNeg) ∧ (¬ sp_copyok hol sor (nF zn) (nI dd) (nI ii) (nI ee) (nI jj) (nI n2) → u.1 = itm)) (RwB dC dI A (fun (u : (Nat → Int32) × (Nat → Int32)) => [(m0, .inr (4, moF a v)), ((a 32), .inl (dA 0, 8, .inl hol)), ((a 33), .inl (dA 0, 8, .inl sor)), ((a 34), .inl (dA 0, 8, .inl (nF zn))), ((a 35), .inl (dA 0, 800, .inl u.1)), ((a 36), .inl (dA 0, 100, .inl u.2))])) A) ([.ref m0, .int (nI dd), .int (nI ii), .int (nI ee), .int (nI jj), .int (nI n2)] : List Value).toArray s 0 0 A) (F0 m 128 ls []) := by
                            intro fuel
                            induction fuel with
                            | zero =>
                              intro k hk hf H locs ls hP hD hS hl
                              exact absurd hf (by omega)
                            | succ fuel ih_128 =>
                              intro k hk hf H locs ls hP hD hS hl
                              refine lv_iload hx hb dX5_copy_128 (lv_at hl 6 rfl) ?_
                              refine lv_iload hx hb dX5_copy_130 (lv_at hl 5 rfl) ?_
                              refine lv_icmp_ge (tgt := 162) hx hb dX5_copy_132 (by decide) (fun c_132 => ?_) (fun c_132 => ?_)
                              · skip
                                have n_c_132 : n2 ≤ k := (nI_leI (a := n2) (b := k) (by omega) (by omega)).mp c_132
                                refine lv_iconst (v := 0) hx hb dX5_copy_162 (by decide) ?_
                                refine lv_istore (lv' := [(6, .int 0), (0, .ref m0), (1, .int (nI dd)), (2, .int (nI ii)), (3, .int (nI ee)), (4, .int (nI jj)), (5, .int (nI n2))]) hx hb dX5_copy_163 hl (by decide) rfl (fun ls hl => ?_)
                                have hkn : k = n2 := by omega
                                rw [hkn] at hP hD
                                have hP := arr_eq hP 4 rfl (g := (va_cpy itm itm (100 * dd + ii) (100 * ee + jj) 0)) (fun j hj => by rw [cp_0])
                                have hD := va_D.set (p := 4) (a := (a 35)) (e := .inl (dA 0, 800, .inl (va_cpy itm itm (100 * dd + ii) (100 * ee + jj) 0))) hD rfl
                                have hP : va_P (dC, dI) vwCl [(m0, .inr (4, moF a v)), ((a 32), .inl (dA 0, 8, .inl hol)), ((a 33), .inl (dA 0, 8, .inl sor)), ((a 34), .inl (dA 0, 8, .inl (nF zn))), ((a 35), .inl (dA 0, 800, .inl (va_cpy itm itm (100 * dd + ii) (100 * ee + jj) 0))), ((a 36), .inl (dA 0, 100, .inl (va_cpy itm mvd (100 * dd + ii) 0 n2)))] H := hP
                                have hD : va_D A [(m0, .inr (4, moF a v)), ((a 32), .inl (dA 0, 8, .inl hol)), ((a 33), .inl (dA 0, 8, .inl sor)), ((a 34), .inl (dA 0, 8, .inl (nF zn))), ((a 35), .inl (dA 0, 800, .inl (va_cpy itm itm (100 * dd + ii) (100 * ee + jj) 0))), ((a 36), .inl (dA 0, 100, .inl (va_cpy itm mvd (100 * dd + ii) 0 n2)))] := hD
                                have K_165 : ∀ (fuel : Nat), ∀ (k : Nat), (k ≤ n2) → (n2 < k + fuel) → ∀ (H : Heap) (locs : List Loc) (ls : Array Slot), va_P (dC, dI) vwCl [(m0, .inr (4, moF a v)), ((a 32), .inl (dA 0, 8, .inl hol)), ((a 33), .inl (dA 0, 8, .inl sor)), ((a 34), .inl (dA 0, 8, .inl (nF zn))), ((a 35), .inl (dA 0, 800, .inl (va_cpy itm itm (100 * dd + ii) (100 * ee + jj) k))), ((a 36), .inl (dA 0, 100, .inl (va_cpy itm mvd (100 * dd + ii) 0 n2)))] H → va_D A [(m0, .inr (4, moF a v)), ((a 32), .inl (dA 0, 8, .inl hol)), ((a 33), .inl (dA 0, 8, .inl sor)), ((a 34), .inl (dA 0, 8, .inl (nF zn))), ((a 35), .inl (dA 0, 800, .inl (va_cpy itm itm (100 * dd + ii) (100 * ee + jj) k))), ((a 36), .inl (dA 0, 100, .inl (va_cpy itm mvd (100 * dd + ii) 0 n2)))] → va_S A s.heap H locs → lv_has ls 7 [(0, .ref m0), (1, .int (nI dd)), (2, .int (nI ii)), (3, .int (nI ee)), (4, .int (nI jj)), (5, .int (nI n2)), (6, .int (nI k))] → W p l e ({ frames := 4, cells := 0, slots := 0, locals := 192 } : Room) s m ([.ref m0, .int (nI dd), .int (nI ii), .int (nI ee), .int (nI jj), .int (nI n2)] : List Value).toArray below meth c H locs 0 0 (MQ below (va_Qi (fun (r : Int32) (u : (Nat → Int32) × (Nat → Int32)) => r = sp_copyr hol sor (nF zn) (nI dd) (nI ii) (nI ee) (nI jj) (nI n2) ∧ (sp_copyok hol sor (nF zn) (nI dd) (nI ii) (nI ee) (nI jj) (nI n2) → u.1 = va_cpy itm itm (100 * (nI dd).toNatClampNeg + (nI ii).toNatClampNeg) (100 * (nI ee).toNatClampNeg + (nI jj).toNatClampNeg) (nI n2).toNatClampNeg) ∧ (¬ sp_copyok hol sor (nF zn) (nI dd) (nI ii) (nI ee) (nI jj) (nI n2) → u.1 = itm)) (RwB dC dI A (fun (u : (Nat → Int32) × (Nat → Int32)) => [(m0, .inr (4, moF a v)), ((a 32), .inl (dA 0, 8, .inl hol)), ((a 33), .inl (dA 0, 8, .inl sor)), ((a 34), .inl (dA 0, 8, .inl (nF zn))), ((a 35), .inl (dA 0, 800, .inl u.1)), ((a 36), .inl (dA 0, 100, .inl u.2))])) A) ([.ref m0, .int (nI dd), .int (nI ii), .int (nI ee), .int (nI jj), .int (nI n2)] : List Value).toArray s 0 0 A) (F0 m 165 ls []) := by
                                  intro fuel
                                  induction fuel with
                                  | zero =>
                                    intro k hk hf H locs ls hP hD hS hl
                                    exact absurd hf (by omega)
                                  | succ fuel ih_165 =>
                                    intro k hk hf H locs ls hP hD hS hl
                                    refine lv_iload hx hb dX5_copy_165 (lv_at hl 6 rfl) ?_
                                    refine lv_iload hx hb dX5_copy_167 (lv_at hl 5 rfl) ?_
                                    refine lv_icmp_ge (tgt := 200) hx hb dX5_copy_169 (by decide) (fun c_169 => ?_) (fun c_169 => ?_)
                                    · skip
                                      have n_c_169 : n2 ≤ k := (nI_leI (a := n2) (b := k) (by omega) (by omega)).mp c_169
                                      refine lv_iload hx hb dX5_copy_200 (lv_at hl 5 rfl) ?_
                                      refine rt_i hx hb hr hlocks dX5_copy_202 hP hD hS (Nat.le_of_ble_eq_true rfl) (Nat.le_of_ble_eq_true rfl) (va_cpy itm itm (100 * dd + ii) (100 * ee + jj) k, va_cpy itm mvd (100 * dd + ii) 0 n2) [0, 1, 2, 3, 4, 5] rfl (by decide) ?_
                                      clear hl hP hD hK hts hS
                                      grind [sp_copyr, sp_copyok, nF]
                                    · skip
                                      have n_c_169 : ¬ n2 ≤ k := fun h9 => c_169 ((nI_leI (a := n2) (b := k) (by omega) (by omega)).mpr h9)
                                      refine lv_aload_n hx hb dX5_copy_172 rfl (lv_at hl 0 rfl) ?_
                                      refine va_get (D := (dC, dI)) (ci := 4) (v := .ref (a 35)) (C := RX5) (T := TX5) (N := 41) hx hb hts in_X5 hown hK.1 hP 0 rfl rfl 35 (by decide) (hts _ q1127) (fun _ h9 => h9) rfl dX5_copy_173 ?_
                                      refine lv_bipush (v := 100) hx hb dX5_copy_176 (by decide) ?_
                                      refine lv_iload_n hx hb dX5_copy_178 rfl (lv_at hl 3 rfl) ?_
                                      refine lv_imul hx hb dX5_copy_179 ?_
                                      refine lv_iload hx hb dX5_copy_180 (lv_at hl 4 rfl) ?_
                                      refine lv_iadd hx hb dX5_copy_182 ?_
                                      refine lv_eqi (y := (nI (100 * ee + jj))) (c100 ee jj) ?_
                                      refine lv_iload hx hb dX5_copy_183 (lv_at hl 6 rfl) ?_
                                      refine lv_iadd hx hb dX5_copy_185 ?_
                                      refine lv_eqi (y := (nI (100 * ee + jj + k))) (nI_add _ _) ?_
                                      refine lv_aload_n hx hb dX5_copy_186 rfl (lv_at hl 0 rfl) ?_
                                      refine va_get (D := (dC, dI)) (ci := 4) (v := .ref (a 36)) (C := RX5) (T := TX5) (N := 41) hx hb hts in_X5 hown hK.1 hP 0 rfl rfl 36 (by decide) (hts _ q1128) (fun _ h9 => h9) rfl dX5_copy_187 ?_
                                      refine lv_iload hx hb dX5_copy_190 (lv_at hl 6 rfl) ?_
                                      refine va_iald hx hb hK.1 hP 5 0 rfl rfl (vp_in_nI (by omega) (by omega)) dX5_copy_192 ?_
                                      refine lv_eqi (y := ((va_cpy itm mvd (100 * dd + ii) 0 n2) k)) (congrArg (va_cpy itm mvd (100 * dd + ii) 0 n2) (nI_clamp (by omega))) ?_
                                      refine lv_eqi (y := (itm (100 * dd + ii + k))) (cp_u (by omega)) ?_
                                      refine va_iast hx hb hK.1 hP hD hS 4 0 rfl rfl (vp_in_nI (by omega) (by omega)) dX5_copy_193 (fun H locs hP hD hS => ?_)
                                      rw [nI_clamp (n := (100 * ee + jj + k)) (by omega)] at hP hD
                                      have hP : va_P (dC, dI) vwCl [(m0, .inr (4, moF a v)), ((a 32), .inl (dA 0, 8, .inl hol)), ((a 33), .inl (dA 0, 8, .inl sor)), ((a 34), .inl (dA 0, 8, .inl (nF zn))), ((a 35), .inl (dA 0, 800, .inl (upd (va_cpy itm itm (100 * dd + ii) (100 * ee + jj) k) (100 * ee + jj + k) (itm (100 * dd + ii + k))))), ((a 36), .inl (dA 0, 100, .inl (va_cpy itm mvd (100 * dd + ii) 0 n2)))] H := hP
                                      have hD : va_D A [(m0, .inr (4, moF a v)), ((a 32), .inl (dA 0, 8, .inl hol)), ((a 33), .inl (dA 0, 8, .inl sor)), ((a 34), .inl (dA 0, 8, .inl (nF zn))), ((a 35), .inl (dA 0, 800, .inl (upd (va_cpy itm itm (100 * dd + ii) (100 * ee + jj) k) (100 * ee + jj + k) (itm (100 * dd + ii + k))))), ((a 36), .inl (dA 0, 100, .inl (va_cpy itm mvd (100 * dd + ii) 0 n2)))] := hD
                                      rw [cp_s] at hP hD
                                      refine lv_iinc (v := (nI (k + 1))) (lv' := [(6, .int (nI (k + 1))), (0, .ref m0), (1, .int (nI dd)), (2, .int (nI ii)), (3, .int (nI ee)), (4, .int (nI jj)), (5, .int (nI n2))]) hx hb dX5_copy_194 hl (k := 6) rfl (nI_1 k) (by decide) rfl (fun ls hl => ?_)
                                      refine lv_goto (tgt := 165) hx hb dX5_copy_197 (by decide) ?_
                                      exact ih_165 (k + 1) (by omega) (by omega) H locs ls hP hD hS (lv_sub hl [1, 2, 3, 4, 5, 6, 0] rfl)
                                exact K_165 (n2 + 1) 0 (by omega) (by omega) H locs ls hP hD hS (lv_sub hl [1, 2, 3, 4, 5, 6, 0] rfl)
                              · skip
                                have n_c_132 : ¬ n2 ≤ k := fun h9 => c_132 ((nI_leI (a := n2) (b := k) (by omega) (by omega)).mpr h9)
                                refine lv_aload_n hx hb dX5_copy_135 rfl (lv_at hl 0 rfl) ?_
                                refine va_get (D := (dC, dI)) (ci := 4) (v := .ref (a 36)) (C := RX5) (T := TX5) (N := 41) hx hb hts in_X5 hown hK.1 hP 0 rfl rfl 36 (by decide) (hts _ q1128) (fun _ h9 => h9) rfl dX5_copy_136 ?_
                                refine lv_iload hx hb dX5_copy_139 (lv_at hl 6 rfl) ?_
                                refine lv_aload_n hx hb dX5_copy_141 rfl (lv_at hl 0 rfl) ?_
                                refine va_get (D := (dC, dI)) (ci := 4) (v := .ref (a 35)) (C := RX5) (T := TX5) (N := 41) hx hb hts in_X5 hown hK.1 hP 0 rfl rfl 35 (by decide) (hts _ q1127) (fun _ h9 => h9) rfl dX5_copy_142 ?_
                                refine lv_bipush (v := 100) hx hb dX5_copy_145 (by decide) ?_
                                refine lv_iload_n hx hb dX5_copy_147 rfl (lv_at hl 1 rfl) ?_
                                refine lv_imul hx hb dX5_copy_148 ?_
                                refine lv_iload_n hx hb dX5_copy_149 rfl (lv_at hl 2 rfl) ?_
                                refine lv_iadd hx hb dX5_copy_150 ?_
                                refine lv_eqi (y := (nI (100 * dd + ii))) (c100 dd ii) ?_
                                refine lv_iload hx hb dX5_copy_151 (lv_at hl 6 rfl) ?_
                                refine lv_iadd hx hb dX5_copy_153 ?_
                                refine lv_eqi (y := (nI (100 * dd + ii + k))) (nI_add _ _) ?_
                                refine va_iald hx hb hK.1 hP 4 0 rfl rfl (vp_in_nI (by omega) (by omega)) dX5_copy_154 ?_
                                refine lv_eqi (y := (itm (100 * dd + ii + k))) (congrArg itm (nI_clamp (by omega))) ?_
                                refine va_iast hx hb hK.1 hP hD hS 5 0 rfl rfl (vp_in_nI (by omega) (by omega)) dX5_copy_155 (fun H locs hP hD hS => ?_)
                                rw [nI_clamp (n := k) (by omega)] at hP hD
                                have hP : va_P (dC, dI) vwCl [(m0, .inr (4, moF a v)), ((a 32), .inl (dA 0, 8, .inl hol)), ((a 33), .inl (dA 0, 8, .inl sor)), ((a 34), .inl (dA 0, 8, .inl (nF zn))), ((a 35), .inl (dA 0, 800, .inl itm)), ((a 36), .inl (dA 0, 100, .inl (upd (va_cpy itm mvd (100 * dd + ii) 0 k) k (itm (100 * dd + ii + k)))))] H := hP
                                have hD : va_D A [(m0, .inr (4, moF a v)), ((a 32), .inl (dA 0, 8, .inl hol)), ((a 33), .inl (dA 0, 8, .inl sor)), ((a 34), .inl (dA 0, 8, .inl (nF zn))), ((a 35), .inl (dA 0, 800, .inl itm)), ((a 36), .inl (dA 0, 100, .inl (upd (va_cpy itm mvd (100 * dd + ii) 0 k) k (itm (100 * dd + ii + k)))))] := hD
                                rw [cp_t] at hP hD
                                refine lv_iinc (v := (nI (k + 1))) (lv' := [(6, .int (nI (k + 1))), (0, .ref m0), (1, .int (nI dd)), (2, .int (nI ii)), (3, .int (nI ee)), (4, .int (nI jj)), (5, .int (nI n2))]) hx hb dX5_copy_156 hl (k := 6) rfl (nI_1 k) (by decide) rfl (fun ls hl => ?_)
                                refine lv_goto (tgt := 128) hx hb dX5_copy_159 (by decide) ?_
                                exact ih_128 (k + 1) (by omega) (by omega) H locs ls hP hD hS (lv_sub hl [1, 2, 3, 4, 5, 6, 0] rfl)
                          exact K_128 (n2 + 1) 0 (by omega) (by omega) H locs ls hP hD hS (lv_sub hl [1, 2, 3, 4, 5, 6, 0] rfl)
                        · skip
                          refine lv_bipush (v := (-13)) hx hb dX5_copy_122 (by decide) ?_
                          refine rt_i hx hb hr hlocks dX5_copy_124 hP hD hS (Nat.le_of_ble_eq_true rfl) (Nat.le_of_ble_eq_true rfl) (itm, mvd) [0, 1, 2, 3, 4, 5] rfl (by decide) ?_
                          clear hl hP hD hK hts hS
                          grind [sp_copyr, sp_copyok, nF]
              · skip
                refine lv_bipush (v := (-12)) hx hb dX5_copy_78 (by decide) ?_
                refine rt_i hx hb hr hlocks dX5_copy_80 hP hD hS (Nat.le_of_ble_eq_true rfl) (Nat.le_of_ble_eq_true rfl) (itm, mvd) [0, 1, 2, 3, 4, 5] rfl (by decide) ?_
                clear hl hP hD hK hts hS
                grind [sp_copyr, sp_copyok]
        · skip
          refine lv_bipush (v := (-11)) hx hb dX5_copy_40 (by decide) ?_
          refine rt_i hx hb hr hlocks dX5_copy_42 hP hD hS (Nat.le_of_ble_eq_true rfl) (Nat.le_of_ble_eq_true rfl) (itm, mvd) [0, 1, 2, 3, 4, 5] rfl (by decide) ?_
          clear hl hP hD hK hts hS
          grind [sp_copyr, sp_copyok]
    · skip
      have c_17 := bI_eq0 (P := 0 ≤ e0 ∧ e0 ≤ 7) rfl c_17
      refine lv_iconst (v := (-1)) hx hb dX5_copy_20 (by decide) ?_
      refine rt_i hx hb hr hlocks dX5_copy_21 hP hD hS (Nat.le_of_ble_eq_true rfl) (Nat.le_of_ble_eq_true rfl) (itm, mvd) [0, 1, 2, 3, 4, 5] rfl (by decide) ?_
      clear hl hP hD hK hts hS
      grind [sp_copyr, sp_copyok]
