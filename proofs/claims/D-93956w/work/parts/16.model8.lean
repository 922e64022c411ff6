theorem bst_up {C : Nat → Int32} {f : Nat} {x2 x3 y2 y3 : Int32} (h : 0 < f) (hx : x2 = nI (sp_bst C (f - 1)).1 ∧ x3 = (sp_bst C (f - 1)).2) (hy : (C f < x3 ∧ y2 = nI f ∧ y3 = C f) ∨ (¬ C f < x3 ∧ y2 = x2 ∧ y3 = x3)) : y2 = nI (sp_bst C (f + 1 - 1)).1 ∧ y3 = (sp_bst C (f + 1 - 1)).2 := by
  obtain ⟨f, rfl⟩ : ∃ g, f = g + 1 := ⟨f - 1, by omega⟩
  obtain ⟨hx1, hx2⟩ := hx
  show y2 = nI (sp_bst C (f + 1)).1 ∧ y3 = (sp_bst C (f + 1)).2
  have e : sp_bst C (f + 1) = if C (f + 1) < (sp_bst C f).2 then (f + 1, C (f + 1)) else sp_bst C f := rfl
  rw [e]
  have hx2 : x3 = (sp_bst C f).2 := hx2
  have hx1 : x2 = nI (sp_bst C f).1 := hx1
  rcases hy with ⟨h1, h2, h3⟩ | ⟨h1, h2, h3⟩
  · rw [if_pos (by rw [← hx2]; exact h1)]; exact ⟨h2, h3⟩
  · rw [if_neg (by rw [← hx2]; exact h1)]; exact ⟨h2.trans hx1, h3.trans hx2⟩
theorem hdS_X5_look : yX5_look.cls ≠ "java/lang/invoke/MethodHandle" ∧ yX5_look.cls ≠ "java/lang/invoke/VarHandle" ∧ (parseMethodDescriptor yX5_look.desc).map (fun d => d.parameters.length) = some 2 := by decide +kernel
theorem hdV_X5_look : yX5_look.cls = RX5 ∧ yX5_look.cls ≠ "java/lang/invoke/MethodHandle" ∧ yX5_look.cls ≠ "java/lang/invoke/VarHandle" ∧ (parseMethodDescriptor yX5_look.desc).map (fun d => d.parameters.length) = some 2 := ⟨rfl, hdS_X5_look⟩
set_option maxHeartbeats 4000000 in
set_option maxRecDepth 100000 in
theorem met_X5_look {l : Launch} {dC : Nat → ClassId} {dI : Nat → Nat → Nat} {dA : Nat → ClassId} (sz : Nat) (m0 : Nat) (a : Nat → Nat) (v : Nat → Int32) (wn : Nat) (kn : Nat) (pn : Nat) (lw : Int32) (att : Nat → Int32) (wal : Nat → Int32) (fin : Nat → Int32) (knd : Nat → Int32) (fig : Nat → Int32) (dri : Nat → Int32) (wak : Nat → Int32) (pla : Nat → Int32) (lkd : Nat → Int32) (cam : Nat → Int32) (k : Int32) (i : Int32) (hw5 : wn ≤ 5) (hk6 : kn ≤ 6) (hp8 : pn ≤ 8) (htn : ∀ w, w < wn → (0 ≤ att w ∧ att w ≤ 719) ∧ (0 ≤ wal w ∧ wal w ≤ 59)) (hwa : ∀ k, k < kn → 0 ≤ wak k ∧ wak k ≤ 719) : Met l yX5_look (ws_ yX5_look cX5_look 3 (some .int)) ({ frames := 11, cells := 0, slots := 0, locals := 900 } : Room) (RwP dC dI dA [.ref m0, .int k, .int i] [(m0, .inr (4, moF a v)), ((a 0), .inl (dA 0, 4, .inl (mn4 wn kn pn lw))), ((a 1), .inl (dA 0, 5, .inl att)), ((a 2), .inl (dA 0, 5, .inl wal)), ((a 3), .inl (dA 0, 5, .inl fin)), ((a 4), .inl (dA 0, 6, .inl knd)), ((a 5), .inl (dA 0, 6, .inl fig)), ((a 6), .inl (dA 0, 6, .inl dri)), ((a 7), .inl (dA 0, 6, .inl wak)), ((a 8), .inl (dA 0, 8, .inl pla)), ((a 21), .inl (dA 0, 16, .inl lkd)), ((a 25), .inl (dA 0, 5, .inl cam))] sz) (va_Qi (fun (r : Int32) (u : (Nat → Int32) × (Nat → Int32) × (Nat → Int32)) => r = sp_lookq kn (sp_lk knd fig dri wak lw pn pla att wal fin wn) k i ∧ sp_vk u.1 v) (RwB dC dI (va_A [(m0, .inr (4, moF a v)), ((a 0), .inl (dA 0, 4, .inl (mn4 wn kn pn lw))), ((a 1), .inl (dA 0, 5, .inl att)), ((a 2), .inl (dA 0, 5, .inl wal)), ((a 3), .inl (dA 0, 5, .inl fin)), ((a 4), .inl (dA 0, 6, .inl knd)), ((a 5), .inl (dA 0, 6, .inl fig)), ((a 6), .inl (dA 0, 6, .inl dri)), ((a 7), .inl (dA 0, 6, .inl wak)), ((a 8), .inl (dA 0, 8, .inl pla)), ((a 21), .inl (dA 0, 16, .inl lkd)), ((a 25), .inl (dA 0, 5, .inl cam))] sz) (fun (u : (Nat → Int32) × (Nat → Int32) × (Nat → Int32)) => [(m0, .inr (4, moF a u.1)), ((a 0), .inl (dA 0, 4, .inl (mn4 wn kn pn lw))), ((a 1), .inl (dA 0, 5, .inl att)), ((a 2), .inl (dA 0, 5, .inl wal)), ((a 3), .inl (dA 0, 5, .inl fin)), ((a 4), .inl (dA 0, 6, .inl knd)), ((a 5), .inl (dA 0, 6, .inl fig)), ((a 6), .inl (dA 0, 6, .inl dri)), ((a 7), .inl (dA 0, 6, .inl wak)), ((a 8), .inl (dA 0, 8, .inl pla)), ((a 21), .inl (dA 0, 16, .inl u.2.1)), ((a 25), .inl (dA 0, 5, .inl u.2.2))])) (va_A [(m0, .inr (4, moF a v)), ((a 0), .inl (dA 0, 4, .inl (mn4 wn kn pn lw))), ((a 1), .inl (dA 0, 5, .inl att)), ((a 2), .inl (dA 0, 5, .inl wal)), ((a 3), .inl (dA 0, 5, .inl fin)), ((a 4), .inl (dA 0, 6, .inl knd)), ((a 5), .inl (dA 0, 6, .inl fig)), ((a 6), .inl (dA 0, 6, .inl dri)), ((a 7), .inl (dA 0, 6, .inl wak)), ((a 8), .inl (dA 0, 8, .inl pla)), ((a 21), .inl (dA 0, 16, .inl lkd)), ((a 25), .inl (dA 0, 5, .inl cam))] sz)) 0 0 (va_A [(m0, .inr (4, moF a v)), ((a 0), .inl (dA 0, 4, .inl (mn4 wn kn pn lw))), ((a 1), .inl (dA 0, 5, .inl att)), ((a 2), .inl (dA 0, 5, .inl wal)), ((a 3), .inl (dA 0, 5, .inl fin)), ((a 4), .inl (dA 0, 6, .inl knd)), ((a 5), .inl (dA 0, 6, .inl fig)), ((a 6), .inl (dA 0, 6, .inl dri)), ((a 7), .inl (dA 0, 6, .inl wak)), ((a 8), .inl (dA 0, 8, .inl pla)), ((a 21), .inl (dA 0, 16, .inl lkd)), ((a 25), .inl (dA 0, 5, .inl cam))] sz) := by
  refine ofRw (cc := cX5_look) (maxL := 3) (ret := (some .int)) (Qf := fun A => va_Qi (fun (r : Int32) (u : (Nat → Int32) × (Nat → Int32) × (Nat → Int32)) => r = sp_lookq kn (sp_lk knd fig dri wak lw pn pla att wal fin wn) k i ∧ sp_vk u.1 v) (RwB dC dI A (fun (u : (Nat → Int32) × (Nat → Int32) × (Nat → Int32)) => [(m0, .inr (4, moF a u.1)), ((a 0), .inl (dA 0, 4, .inl (mn4 wn kn pn lw))), ((a 1), .inl (dA 0, 5, .inl att)), ((a 2), .inl (dA 0, 5, .inl wal)), ((a 3), .inl (dA 0, 5, .inl fin)), ((a 4), .inl (dA 0, 6, .inl knd)), ((a 5), .inl (dA 0, 6, .inl fig)), ((a 6), .inl (dA 0, 6, .inl dri)), ((a 7), .inl (dA 0, 6, .inl wak)), ((a 8), .inl (dA 0, 8, .inl pla)), ((a 21), .inl (dA 0, 16, .inl u.2.1)), ((a 25), .inl (dA 0, 5, .inl u.2.2))])) A) (by decide) rfl (fun w h => List.mem_cons_of_mem _ h) (Nat.le_of_ble_eq_true rfl) ?_
  intro p e s m below meth c ls A hx hb hr hlocks hml hts hown hP hK hD hA hnm hsz hl
  have hS : va_S A s.heap s.heap [] := va_S.rf
  obtain ⟨H, hHe⟩ : ∃ H, H = s.heap := ⟨_, rfl⟩
  obtain ⟨locs, hlo⟩ : ∃ z : List Loc, z = [] := ⟨_, rfl⟩
  have hS : va_S A s.heap H locs := by rw [hHe, hlo]; exact hS
  suffices K0 : W p l e _ s m _ below meth c H locs 0 0 _ _ by rw [hHe, hlo] at K0; exact K0
  rw [← hHe] at hP
  have hown : s.vm.findClass RX5 = some m.cls := hown
  have hl : lv_has ls 3 [(0, .ref m0), (1, .int k), (2, .int i)] := hl
  refine lv_aload_n hx hb dX5_look_0 rfl (lv_at hl 0 rfl) ?_
  refine lv_iload_n hx hb dX5_look_1 rfl (lv_at hl 1 rfl) ?_
  refine ro_V (rest := []) (As := [.int k]) (wc := [(m0, .inr (4, moF a v)), ((a 0), .inl (dA 0, 4, .inl (mn4 wn kn pn lw)))]) ⟨hx, hb, hml, hown, hts⟩ (met_X5_isLooker m0 a v wn kn pn lw k) (cwV 1 hts (lw_V q1256 q1258 qs25 q46 q1259) rfl rfl rfl hdV_X5_isLooker ⟨Nat.le_of_ble_eq_true rfl, Nat.le_of_ble_eq_true rfl⟩) hK hP [0, 1] rfl (va_recv hK.1 hP (ci := 4) (q0 := 0) rfl rfl) rfl hl.1 rfl (Nat.le_of_ble_eq_true rfl) dX5_look_2 ⟨Nat.le_of_ble_eq_true rfl, Nat.le_of_ble_eq_true rfl⟩ (fun r_2 h_2 => ?_)
  obtain rfl : r_2 = bI (0 ≤ k ∧ k ≤ nI kn - 1) := h_2
  refine lv_if_eq (tgt := 12) hx hb dX5_look_5 (by decide) (fun c_5 => ?_) (fun c_5 => ?_)
  · skip
    have c_5 := bI_eq0 (P := 0 ≤ k ∧ k ≤ nI kn - 1) rfl c_5
    refine lv_iconst (v := (-1)) hx hb dX5_look_12 (by decide) ?_
    refine rt_i hx hb hr hlocks dX5_look_13 hP hD hS (Nat.le_of_ble_eq_true rfl) (Nat.le_of_ble_eq_true rfl) (v, lkd, cam) [0, 1, 2, 3, 4, 5, 6, 7, 8, 9, 10, 11] rfl (by decide) ?_
    exact ⟨by rw [sp_lookq]; first | rw [if_neg c_5] | rw [if_pos c_5, if_pos (Int32.not_le.mp c_9)], vk_rf v⟩
  · skip
    have c_5 := bI_ne0 (P := 0 ≤ k ∧ k ≤ nI kn - 1) rfl c_5
    refine lv_iload_n hx hb dX5_look_8 rfl (lv_at hl 2 rfl) ?_
    refine lv_if_ge (tgt := 14) hx hb dX5_look_9 (by decide) (fun c_9 => ?_) (fun c_9 => ?_)
    · skip
      obtain ⟨kk, hkk, rfl⟩ := ix_nI (by omega) c_5
      have e_kk : (nI kk).toNatClampNeg = kk := nI_clamp (by omega)
      refine lv_aload_n hx hb dX5_look_14 rfl (lv_at hl 0 rfl) ?_
      refine lv_iload_n hx hb dX5_look_15 rfl (lv_at hl 1 rfl) ?_
      refine rw_i (wr := []) (rw_V (rest := []) (As := [.int (nI kk)]) (wc := [(m0, .inr (4, moF a v)), ((a 0), .inl (dA 0, 4, .inl (mn4 wn kn pn lw))), ((a 1), .inl (dA 0, 5, .inl att)), ((a 2), .inl (dA 0, 5, .inl wal)), ((a 3), .inl (dA 0, 5, .inl fin)), ((a 4), .inl (dA 0, 6, .inl knd)), ((a 5), .inl (dA 0, 6, .inl fig)), ((a 6), .inl (dA 0, 6, .inl dri)), ((a 7), .inl (dA 0, 6, .inl wak)), ((a 8), .inl (dA 0, 8, .inl pla)), ((a 21), .inl (dA 0, 16, .inl lkd)), ((a 25), .inl (dA 0, 5, .inl cam))]) ⟨hx, hb, hml, hown, hts⟩ (met_X5_dayOf _ m0 a v wn kn pn lw att wal fin knd fig dri wak pla lkd cam kk (by assumption) (by assumption) (by assumption) (by assumption) (by assumption) (by assumption)) (cwV 1 hts (lw_V q1279 q1281 qs26 q46 q1282) rfl rfl rfl hdV_X5_dayOf ⟨Nat.le_of_ble_eq_true rfl, Nat.le_of_ble_eq_true rfl⟩) hK hP hD [0, 1, 2, 3, 4, 5, 6, 7, 8, 9, 10, 11] rfl (by decide) (va_recv hK.1 hP (ci := 4) (q0 := 0) rfl rfl) rfl hl.1 rfl (Nat.le_of_ble_eq_true rfl) dX5_look_16 ⟨Nat.le_of_ble_eq_true rfl, Nat.le_of_ble_eq_true rfl⟩) hP hD hS hA [0, 1, 2, 3, 4, 5, 6, 7, 8, 9, 10, 11] [] rfl rfl (by decide) (by decide) (fun r_16 u_16 H locs h_16 hz_16 hP hD hS => ?_)
      obtain ⟨v2_16, lkd2_16, cam2_16⟩ := u_16
      have hP : va_P (dC, dI) vwCl [(m0, .inr (4, moF a v2_16)), ((a 0), .inl (dA 0, 4, .inl (mn4 wn kn pn lw))), ((a 1), .inl (dA 0, 5, .inl att)), ((a 2), .inl (dA 0, 5, .inl wal)), ((a 3), .inl (dA 0, 5, .inl fin)), ((a 4), .inl (dA 0, 6, .inl knd)), ((a 5), .inl (dA 0, 6, .inl fig)), ((a 6), .inl (dA 0, 6, .inl dri)), ((a 7), .inl (dA 0, 6, .inl wak)), ((a 8), .inl (dA 0, 8, .inl pla)), ((a 21), .inl (dA 0, 16, .inl lkd2_16)), ((a 25), .inl (dA 0, 5, .inl cam2_16))] H := hP
      have hD : va_D A [(m0, .inr (4, moF a v2_16)), ((a 0), .inl (dA 0, 4, .inl (mn4 wn kn pn lw))), ((a 1), .inl (dA 0, 5, .inl att)), ((a 2), .inl (dA 0, 5, .inl wal)), ((a 3), .inl (dA 0, 5, .inl fin)), ((a 4), .inl (dA 0, 6, .inl knd)), ((a 5), .inl (dA 0, 6, .inl fig)), ((a 6), .inl (dA 0, 6, .inl dri)), ((a 7), .inl (dA 0, 6, .inl wak)), ((a 8), .inl (dA 0, 8, .inl pla)), ((a 21), .inl (dA 0, 16, .inl lkd2_16)), ((a 25), .inl (dA 0, 5, .inl cam2_16))] := hD
      have f_16 : dyOK ((sp_lk knd fig dri wak lw pn pla att wal fin wn) kk) wn v v2_16 lkd2_16 cam2_16 := h_16.2
      obtain rfl : r_16 = sp_cost ((sp_lk knd fig dri wak lw pn pla att wal fin wn) kk) := h_16.1
      refine lv_pop hx hb dX5_look_19 rfl ?_
      obtain ⟨d1, d2, d3, d4, d5, d6, d7, d8, d9⟩ := f_16
      refine lv_iload_n hx hb dX5_look_20 rfl (lv_at hl 2 rfl) ?_
      refine lv_aload_n hx hb dX5_look_21 rfl (lv_at hl 0 rfl) ?_
      refine va_get (D := (dC, dI)) (ci := 4) (v := .int (v2_16 20)) (C := RX5) (T := TX5) (N := 41) hx hb hts in_X5 hown hK.1 hP 0 rfl rfl 20 (by decide) (hts _ q1112) (fun _ h9 => h9) rfl dX5_look_22 ?_
      refine lv_icmp_ge (tgt := 37) hx hb dX5_look_25 (by decide) (fun c_25 => ?_) (fun c_25 => ?_)
      · skip
        refine lv_bipush (v := (-4)) hx hb dX5_look_37 (by decide) ?_
        refine rt_i hx hb hr hlocks dX5_look_39 hP hD hS (Nat.le_of_ble_eq_true rfl) (Nat.le_of_ble_eq_true rfl) (v2_16, lkd2_16, cam2_16) [0, 1, 2, 3, 4, 5, 6, 7, 8, 9, 10, 11] rfl (by decide) ?_
        rw [sp_lookq, if_pos c_5, e_kk, if_neg (Int32.not_lt.mpr c_9)]
        exact ⟨by rw [if_neg (by rw [← d3]; exact Int32.not_lt.mpr c_25)], d1⟩
      · skip
        obtain ⟨ii, hii, rfl⟩ := nI_of (Int32.not_lt.mpr c_9)
        have hin : ii < dN ((sp_lk knd fig dri wak lw pn pla att wal fin wn) kk) := by rw [d3] at c_25; exact (nI_ltI hii (by omega)).mp (Int32.not_le.mp c_25)
        have e_ii : (nI ii).toNatClampNeg = ii := nI_clamp (by omega)
        refine lv_aload_n hx hb dX5_look_28 rfl (lv_at hl 0 rfl) ?_
        refine va_get (D := (dC, dI)) (ci := 4) (v := .ref (a 21)) (C := RX5) (T := TX5) (N := 41) hx hb hts in_X5 hown hK.1 hP 0 rfl rfl 21 (by decide) (hts _ q1113) (fun _ h9 => h9) rfl dX5_look_29 ?_
        refine lv_iload_n hx hb dX5_look_32 rfl (lv_at hl 2 rfl) ?_
        refine va_iald hx hb hK.1 hP 10 0 rfl rfl (vp_in_nI (by omega) (by omega)) dX5_look_33 ?_
        refine lv_eqi (y := (lkd2_16 ii)) (congrArg lkd2_16 (nI_clamp (by omega))) ?_
        refine lv_goto (tgt := 39) hx hb dX5_look_34 (by decide) ?_
        refine rt_i hx hb hr hlocks dX5_look_39 hP hD hS (Nat.le_of_ble_eq_true rfl) (Nat.le_of_ble_eq_true rfl) (v2_16, lkd2_16, cam2_16) [0, 1, 2, 3, 4, 5, 6, 7, 8, 9, 10, 11] rfl (by decide) ?_
        rw [sp_lookq, if_pos c_5, e_kk, if_neg (Int32.not_lt.mpr c_9)]
        exact ⟨by rw [if_pos (by rw [← d3]; exact Int32.not_le.mp c_25), e_ii]; exact d7 ii hin, d1⟩
    · skip
      refine lv_iconst (v := (-1)) hx hb dX5_look_12 (by decide) ?_
      refine rt_i hx hb hr hlocks dX5_look_13 hP hD hS (Nat.le_of_ble_eq_true rfl) (Nat.le_of_ble_eq_true rfl) (v, lkd, cam) [0, 1, 2, 3, 4, 5, 6, 7, 8, 9, 10, 11] rfl (by decide) ?_
      exact ⟨by rw [sp_lookq]; first | rw [if_neg c_5] | rw [if_pos c_5, if_pos (Int32.not_le.mp c_9)], vk_rf v⟩
theorem hdS_X5_comes : yX5_comes.cls ≠ "java/lang/invoke/MethodHandle" ∧ yX5_comes.cls ≠ "java/lang/invoke/VarHandle" ∧ (parseMethodDescriptor yX5_comes.desc).map (fun d => d.parameters.length) = some 2 := by decide +kernel
theorem hdV_X5_comes : yX5_comes.cls = RX5 ∧ yX5_comes.cls ≠ "java/lang/invoke/MethodHandle" ∧ yX5_comes.cls ≠ "java/lang/invoke/VarHandle" ∧ (parseMethodDescriptor yX5_comes.desc).map (fun d => d.parameters.length) = some 2 := ⟨rfl, hdS_X5_comes⟩
set_option maxHeartbeats 4000000 in
set_option maxRecDepth 100000 in
theorem met_X5_comes {l : Launch} {dC : Nat → ClassId} {dI : Nat → Nat → Nat} {dA : Nat → ClassId} (sz : Nat) (m0 : Nat) (a : Nat → Nat) (v : Nat → Int32) (wn : Nat) (kn : Nat) (pn : Nat) (lw : Int32) (att : Nat → Int32) (wal : Nat → Int32) (fin : Nat → Int32) (knd : Nat → Int32) (fig : Nat → Int32) (dri : Nat → Int32) (wak : Nat → Int32) (pla : Nat → Int32) (lkd : Nat → Int32) (cam : Nat → Int32) (k : Int32) (w : Int32) (hw5 : wn ≤ 5) (hk6 : kn ≤ 6) (hp8 : pn ≤ 8) (htn : ∀ w, w < wn → (0 ≤ att w ∧ att w ≤ 719) ∧ (0 ≤ wal w ∧ wal w ≤ 59)) (hwa : ∀ k, k < kn → 0 ≤ wak k ∧ wak k ≤ 719) : Met l yX5_comes (ws_ yX5_comes cX5_comes 3 (some .int)) ({ frames := 11, cells := 0, slots := 0, locals := 900 } : Room) (RwP dC dI dA [.ref m0, .int k, .int w] [(m0, .inr (4, moF a v)), ((a 0), .inl (dA 0, 4, .inl (mn4 wn kn pn lw))), ((a 1), .inl (dA 0, 5, .inl att)), ((a 2), .inl (dA 0, 5, .inl wal)), ((a 3), .inl (dA 0, 5, .inl fin)), ((a 4), .inl (dA 0, 6, .inl knd)), ((a 5), .inl (dA 0, 6, .inl fig)), ((a 6), .inl (dA 0, 6, .inl dri)), ((a 7), .inl (dA 0, 6, .inl wak)), ((a 8), .inl (dA 0, 8, .inl pla)), ((a 21), .inl (dA 0, 16, .inl lkd)), ((a 25), .inl (dA 0, 5, .inl cam))] sz) (va_Qi (fun (r : Int32) (u : (Nat → Int32) × (Nat → Int32) × (Nat → Int32)) => r = sp_comesq kn wn (sp_lk knd fig dri wak lw pn pla att wal fin wn) k w ∧ sp_vk u.1 v) (RwB dC dI (va_A [(m0, .inr (4, moF a v)), ((a 0), .inl (dA 0, 4, .inl (mn4 wn kn pn lw))), ((a 1), .inl (dA 0, 5, .inl att)), ((a 2), .inl (dA 0, 5, .inl wal)), ((a 3), .inl (dA 0, 5, .inl fin)), ((a 4), .inl (dA 0, 6, .inl knd)), ((a 5), .inl (dA 0, 6, .inl fig)), ((a 6), .inl (dA 0, 6, .inl dri)), ((a 7), .inl (dA 0, 6, .inl wak)), ((a 8), .inl (dA 0, 8, .inl pla)), ((a 21), .inl (dA 0, 16, .inl lkd)), ((a 25), .inl (dA 0, 5, .inl cam))] sz) (fun (u : (Nat → Int32) × (Nat → Int32) × (Nat → Int32)) => [(m0, .inr (4, moF a u.1)), ((a 0), .inl (dA 0, 4, .inl (mn4 wn kn pn lw))), ((a 1), .inl (dA 0, 5, .inl att)), ((a 2), .inl (dA 0, 5, .inl wal)), ((a 3), .inl (dA 0, 5, .inl fin)), ((a 4), .inl (dA 0, 6, .inl knd)), ((a 5), .inl (dA 0, 6, .inl fig)), ((a 6), .inl (dA 0, 6, .inl dri)), ((a 7), .inl (dA 0, 6, .inl wak)), ((a 8), .inl (dA 0, 8, .inl pla)), ((a 21), .inl (dA 0, 16, .inl u.2.1)), ((a 25), .inl (dA 0, 5, .inl u.2.2))])) (va_A [(m0, .inr (4, moF a v)), ((a 0), .inl (dA 0, 4, .inl (mn4 wn kn pn lw))), ((a 1), .inl (dA 0, 5, .inl att)), ((a 2), .inl (dA 0, 5, .inl wal)), ((a 3), .inl (dA 0, 5, .inl fin)), ((a 4), .inl (dA 0, 6, .inl knd)), ((a 5), .inl (dA 0, 6, .inl fig)), ((a 6), .inl (dA 0, 6, .inl dri)), ((a 7), .inl (dA 0, 6, .inl wak)), ((a 8), .inl (dA 0, 8, .inl pla)), ((a 21), .inl (dA 0, 16, .inl lkd)), ((a 25), .inl (dA 0, 5, .inl cam))] sz)) 0 0 (va_A [(m0, .inr (4, moF a v)), ((a 0), .inl (dA 0, 4, .inl (mn4 wn kn pn lw))), ((a 1), .inl (dA 0, 5, .inl att)), ((a 2), .inl (dA 0, 5, .inl wal)), ((a 3), .inl (dA 0, 5, .inl fin)), ((a 4), .inl (dA 0, 6, .inl knd)), ((a 5), .inl (dA 0, 6, .inl fig)), ((a 6), .inl (dA 0, 6, .inl dri)), ((a 7), .inl (dA 0, 6, .inl wak)), ((a 8), .inl (dA 0, 8, .inl pla)), ((a 21), .inl (dA 0, 16, .inl lkd)), ((a 25), .inl (dA 0, 5, .inl cam))] sz) := by
  refine ofRw (cc := cX5_comes) (maxL := 3) (ret := (some .int)) (Qf := fun A => va_Qi (fun (r : Int32) (u : (Nat → Int32) × (Nat → Int32) × (Nat → Int32)) => r = sp_comesq kn wn (sp_lk knd fig dri wak lw pn pla att wal fin wn) k w ∧ sp_vk u.1 v) (RwB dC dI A (fun (u : (Nat → Int32) × (Nat → Int32) × (Nat → Int32)) => [(m0, .inr (4, moF a u.1)), ((a 0), .inl (dA 0, 4, .inl (mn4 wn kn pn lw))), ((a 1), .inl (dA 0, 5, .inl att)), ((a 2), .inl (dA 0, 5, .inl wal)), ((a 3), .inl (dA 0, 5, .inl fin)), ((a 4), .inl (dA 0, 6, .inl knd)), ((a 5), .inl (dA 0, 6, .inl fig)), ((a 6), .inl (dA 0, 6, .inl dri)), ((a 7), .inl (dA 0, 6, .inl wak)), ((a 8), .inl (dA 0, 8, .inl pla)), ((a 21), .inl (dA 0, 16, .inl u.2.1)), ((a 25), .inl (dA 0, 5, .inl u.2.2))])) A) (by decide) rfl (fun w h => List.mem_cons_of_mem _ h) (Nat.le_of_ble_eq_true rfl) ?_
  intro p e s m below meth c ls A hx hb hr hlocks hml hts hown hP hK hD hA hnm hsz hl
  have hS : va_S A s.heap s.heap [] := va_S.rf
  obtain ⟨H, hHe⟩ : ∃ H, H = s.heap := ⟨_, rfl⟩
  obtain ⟨locs, hlo⟩ : ∃ z : List Loc, z = [] := ⟨_, rfl⟩
  have hS : va_S A s.heap H locs := by rw [hHe, hlo]; exact hS
  suffices K0 : W p l e _ s m _ below meth c H locs 0 0 _ _ by rw [hHe, hlo] at K0; exact K0
  rw [← hHe] at hP
  have hown : s.vm.findClass RX5 = some m.cls := hown
  have hl : lv_has ls 3 [(0, .ref m0), (1, .int k), (2, .int w)] := hl
  refine lv_aload_n hx hb dX5_comes_0 rfl (lv_at hl 0 rfl) ?_
  refine lv_iload_n hx hb dX5_comes_1 rfl (lv_at hl 1 rfl) ?_
  refine ro_V (rest := []) (As := [.int k]) (wc := [(m0, .inr (4, moF a v)), ((a 0), .inl (dA 0, 4, .inl (mn4 wn kn pn lw)))]) ⟨hx, hb, hml, hown, hts⟩ (met_X5_isLooker m0 a v wn kn pn lw k) (cwV 1 hts (lw_V q1256 q1258 qs25 q46 q1259) rfl rfl rfl hdV_X5_isLooker ⟨Nat.le_of_ble_eq_true rfl, Nat.le_of_ble_eq_true rfl⟩) hK hP [0, 1] rfl (va_recv hK.1 hP (ci := 4) (q0 := 0) rfl rfl) rfl hl.1 rfl (Nat.le_of_ble_eq_true rfl) dX5_comes_2 ⟨Nat.le_of_ble_eq_true rfl, Nat.le_of_ble_eq_true rfl⟩ (fun r_2 h_2 => ?_)
  obtain rfl : r_2 = bI (0 ≤ k ∧ k ≤ nI kn - 1) := h_2
  refine lv_if_eq (tgt := 16) hx hb dX5_comes_5 (by decide) (fun c_5 => ?_) (fun c_5 => ?_)
  · skip
    have c_5 := bI_eq0 (P := 0 ≤ k ∧ k ≤ nI kn - 1) rfl c_5
    refine lv_iconst (v := (-1)) hx hb dX5_comes_16 (by decide) ?_
    refine rt_i hx hb hr hlocks dX5_comes_17 hP hD hS (Nat.le_of_ble_eq_true rfl) (Nat.le_of_ble_eq_true rfl) (v, lkd, cam) [0, 1, 2, 3, 4, 5, 6, 7, 8, 9, 10, 11] rfl (by decide) ?_
    exact ⟨by rw [sp_comesq]; first | rw [if_neg c_5] | rw [if_pos c_5, if_neg c_13], vk_rf v⟩
  · skip
    have c_5 := bI_ne0 (P := 0 ≤ k ∧ k ≤ nI kn - 1) rfl c_5
    refine lv_aload_n hx hb dX5_comes_8 rfl (lv_at hl 0 rfl) ?_
    refine lv_iload_n hx hb dX5_comes_9 rfl (lv_at hl 2 rfl) ?_
    refine ro_V (rest := []) (As := [.int w]) (wc := [(m0, .inr (4, moF a v)), ((a 0), .inl (dA 0, 4, .inl (mn4 wn kn pn lw)))]) ⟨hx, hb, hml, hown, hts⟩ (met_X5_isWork m0 a v wn kn pn lw w) (cwV 1 hts (lw_V q1248 q1250 qs24 q46 q1251) rfl rfl rfl hdV_X5_isWork ⟨Nat.le_of_ble_eq_true rfl, Nat.le_of_ble_eq_true rfl⟩) hK hP [0, 1] rfl (va_recv hK.1 hP (ci := 4) (q0 := 0) rfl rfl) rfl hl.1 rfl (Nat.le_of_ble_eq_true rfl) dX5_comes_10 ⟨Nat.le_of_ble_eq_true rfl, Nat.le_of_ble_eq_true rfl⟩ (fun r_10 h_10 => ?_)
    obtain rfl : r_10 = bI (0 ≤ w ∧ w ≤ nI wn - 1) := h_10
    refine lv_if_ne (tgt := 18) hx hb dX5_comes_13 (by decide) (fun c_13 => ?_) (fun c_13 => ?_)
    · skip
      have c_13 := bI_ne0 (P := 0 ≤ w ∧ w ≤ nI wn - 1) rfl c_13
      obtain ⟨kk, hkk, rfl⟩ := ix_nI (by omega) c_5
      have e_kk : (nI kk).toNatClampNeg = kk := nI_clamp (by omega)
      obtain ⟨ww, hww, rfl⟩ := ix_nI (by omega) c_13
      have e_ww : (nI ww).toNatClampNeg = ww := nI_clamp (by omega)
      refine lv_aload_n hx hb dX5_comes_18 rfl (lv_at hl 0 rfl) ?_
      refine lv_iload_n hx hb dX5_comes_19 rfl (lv_at hl 1 rfl) ?_
      refine rw_i (wr := []) (rw_V (rest := []) (As := [.int (nI kk)]) (wc := [(m0, .inr (4, moF a v)), ((a 0), .inl (dA 0, 4, .inl (mn4 wn kn pn lw))), ((a 1), .inl (dA 0, 5, .inl att)), ((a 2), .inl (dA 0, 5, .inl wal)), ((a 3), .inl (dA 0, 5, .inl fin)), ((a 4), .inl (dA 0, 6, .inl knd)), ((a 5), .inl (dA 0, 6, .inl fig)), ((a 6), .inl (dA 0, 6, .inl dri)), ((a 7), .inl (dA 0, 6, .inl wak)), ((a 8), .inl (dA 0, 8, .inl pla)), ((a 21), .inl (dA 0, 16, .inl lkd)), ((a 25), .inl (dA 0, 5, .inl cam))]) ⟨hx, hb, hml, hown, hts⟩ (met_X5_dayOf _ m0 a v wn kn pn lw att wal fin knd fig dri wak pla lkd cam kk (by assumption) (by assumption) (by assumption) (by assumption) (by assumption) (by assumption)) (cwV 1 hts (lw_V q1279 q1281 qs26 q46 q1282) rfl rfl rfl hdV_X5_dayOf ⟨Nat.le_of_ble_eq_true rfl, Nat.le_of_ble_eq_true rfl⟩) hK hP hD [0, 1, 2, 3, 4, 5, 6, 7, 8, 9, 10, 11] rfl (by decide) (va_recv hK.1 hP (ci := 4) (q0 := 0) rfl rfl) rfl hl.1 rfl (Nat.le_of_ble_eq_true rfl) dX5_comes_20 ⟨Nat.le_of_ble_eq_true rfl, Nat.le_of_ble_eq_true rfl⟩) hP hD hS hA [0, 1, 2, 3, 4, 5, 6, 7, 8, 9, 10, 11] [] rfl rfl (by decide) (by decide) (fun r_20 u_20 H locs h_20 hz_20 hP hD hS => ?_)
      obtain ⟨v2_20, lkd2_20, cam2_20⟩ := u_20
      have hP : va_P (dC, dI) vwCl [(m0, .inr (4, moF a v2_20)), ((a 0), .inl (dA 0, 4, .inl (mn4 wn kn pn lw))), ((a 1), .inl (dA 0, 5, .inl att)), ((a 2), .inl (dA 0, 5, .inl wal)), ((a 3), .inl (dA 0, 5, .inl fin)), ((a 4), .inl (dA 0, 6, .inl knd)), ((a 5), .inl (dA 0, 6, .inl fig)), ((a 6), .inl (dA 0, 6, .inl dri)), ((a 7), .inl (dA 0, 6, .inl wak)), ((a 8), .inl (dA 0, 8, .inl pla)), ((a 21), .inl (dA 0, 16, .inl lkd2_20)), ((a 25), .inl (dA 0, 5, .inl cam2_20))] H := hP
      have hD : va_D A [(m0, .inr (4, moF a v2_20)), ((a 0), .inl (dA 0, 4, .inl (mn4 wn kn pn lw))), ((a 1), .inl (dA 0, 5, .inl att)), ((a 2), .inl (dA 0, 5, .inl wal)), ((a 3), .inl (dA 0, 5, .inl fin)), ((a 4), .inl (dA 0, 6, .inl knd)), ((a 5), .inl (dA 0, 6, .inl fig)), ((a 6), .inl (dA 0, 6, .inl dri)), ((a 7), .inl (dA 0, 6, .inl wak)), ((a 8), .inl (dA 0, 8, .inl pla)), ((a 21), .inl (dA 0, 16, .inl lkd2_20)), ((a 25), .inl (dA 0, 5, .inl cam2_20))] := hD
      have f_20 : dyOK ((sp_lk knd fig dri wak lw pn pla att wal fin wn) kk) wn v v2_20 lkd2_20 cam2_20 := h_20.2
      obtain rfl : r_20 = sp_cost ((sp_lk knd fig dri wak lw pn pla att wal fin wn) kk) := h_20.1
      refine lv_pop hx hb dX5_comes_23 rfl ?_
      obtain ⟨d1, d2, d3, d4, d5, d6, d7, d8, d9⟩ := f_20
      refine lv_aload_n hx hb dX5_comes_24 rfl (lv_at hl 0 rfl) ?_
      refine va_get (D := (dC, dI)) (ci := 4) (v := .ref (a 25)) (C := RX5) (T := TX5) (N := 41) hx hb hts in_X5 hown hK.1 hP 0 rfl rfl 25 (by decide) (hts _ q1117) (fun _ h9 => h9) rfl dX5_comes_25 ?_
      refine lv_iload_n hx hb dX5_comes_28 rfl (lv_at hl 2 rfl) ?_
      refine va_iald hx hb hK.1 hP 11 0 rfl rfl (vp_in_nI (by omega) (by omega)) dX5_comes_29 ?_
      refine lv_eqi (y := (cam2_20 ww)) (congrArg cam2_20 (nI_clamp (by omega))) ?_
      refine rt_i hx hb hr hlocks dX5_comes_30 hP hD hS (Nat.le_of_ble_eq_true rfl) (Nat.le_of_ble_eq_true rfl) (v2_20, lkd2_20, cam2_20) [0, 1, 2, 3, 4, 5, 6, 7, 8, 9, 10, 11] rfl (by decide) ?_
      rw [sp_comesq, if_pos c_5, if_pos c_13, e_kk, e_ww]
      exact ⟨d8 ww hww, d1⟩
    · skip
      have c_13 := bI_eq0 (P := 0 ≤ w ∧ w ≤ nI wn - 1) rfl c_13
      refine lv_iconst (v := (-1)) hx hb dX5_comes_16 (by decide) ?_
      refine rt_i hx hb hr hlocks dX5_comes_17 hP hD hS (Nat.le_of_ble_eq_true rfl) (Nat.le_of_ble_eq_true rfl) (v, lkd, cam) [0, 1, 2, 3, 4, 5, 6, 7, 8, 9, 10, 11] rfl (by decide) ?_
      exact ⟨by rw [sp_comesq]; first | rw [if_neg c_5] | rw [if_pos c_5, if_neg c_13], vk_rf v⟩
theorem hdS_X5_bestFigure : yX5_bestFigure.cls ≠ "java/lang/invoke/MethodHandle" ∧ yX5_bestFigure.cls ≠ "java/lang/invoke/VarHandle" ∧ (parseMethodDescriptor yX5_bestFigure.desc).map (fun d => d.parameters.length) = some 1 := by decide +kernel
theorem hdV_X5_bestFigure : yX5_bestFigure.cls = RX5 ∧ yX5_bestFigure.cls ≠ "java/lang/invoke/MethodHandle" ∧ yX5_bestFigure.cls ≠ "java/lang/invoke/VarHandle" ∧ (parseMethodDescriptor yX5_bestFigure.desc).map (fun d => d.parameters.length) = some 1 := ⟨rfl, hdS_X5_bestFigure⟩
set_option maxHeartbeats 4000000 in
set_option maxRecDepth 100000 in
theorem met_X5_bestFigure {l : Launch} {dC : Nat → ClassId} {dI : Nat → Nat → Nat} {dA : Nat → ClassId} (sz : Nat) (m0 : Nat) (a : Nat → Nat) (v : Nat → Int32) (wn : Nat) (kn : Nat) (pn : Nat) (lw : Int32) (att : Nat → Int32) (wal : Nat → Int32) (fin : Nat → Int32) (knd : Nat → Int32) (fig : Nat → Int32) (dri : Nat → Int32) (wak : Nat → Int32) (pla : Nat → Int32) (lkd : Nat → Int32) (cam : Nat → Int32) (k : Int32) (hw5 : wn ≤ 5) (hk6 : kn ≤ 6) (hp8 : pn ≤ 8) (htn : ∀ w, w < wn → (0 ≤ att w ∧ att w ≤ 719) ∧ (0 ≤ wal w ∧ wal w ≤ 59)) (hwa : ∀ k, k < kn → 0 ≤ wak k ∧ wak k ≤ 719) : Met l yX5_bestFigure (ws_ yX5_bestFigure cX5_bestFigure 2 (some .int)) ({ frames := 11, cells := 0, slots := 0, locals := 900 } : Room) (RwP dC dI dA [.ref m0, .int k] [(m0, .inr (4, moF a v)), ((a 0), .inl (dA 0, 4, .inl (mn4 wn kn pn lw))), ((a 1), .inl (dA 0, 5, .inl att)), ((a 2), .inl (dA 0, 5, .inl wal)), ((a 3), .inl (dA 0, 5, .inl fin)), ((a 4), .inl (dA 0, 6, .inl knd)), ((a 5), .inl (dA 0, 6, .inl fig)), ((a 6), .inl (dA 0, 6, .inl dri)), ((a 7), .inl (dA 0, 6, .inl wak)), ((a 8), .inl (dA 0, 8, .inl pla)), ((a 21), .inl (dA 0, 16, .inl lkd)), ((a 25), .inl (dA 0, 5, .inl cam))] sz) (va_Qi (fun (r : Int32) (u : (Nat → Int32) × (Nat → Int32) × (Nat → Int32)) => r = sp_bfq kn (fun kk => sp_best (dri kk) lw (wak kk) pn pla att wal fin wn) k ∧ sp_vk u.1 v) (RwB dC dI (va_A [(m0, .inr (4, moF a v)), ((a 0), .inl (dA 0, 4, .inl (mn4 wn kn pn lw))), ((a 1), .inl (dA 0, 5, .inl att)), ((a 2), .inl (dA 0, 5, .inl wal)), ((a 3), .inl (dA 0, 5, .inl fin)), ((a 4), .inl (dA 0, 6, .inl knd)), ((a 5), .inl (dA 0, 6, .inl fig)), ((a 6), .inl (dA 0, 6, .inl dri)), ((a 7), .inl (dA 0, 6, .inl wak)), ((a 8), .inl (dA 0, 8, .inl pla)), ((a 21), .inl (dA 0, 16, .inl lkd)), ((a 25), .inl (dA 0, 5, .inl cam))] sz) (fun (u : (Nat → Int32) × (Nat → Int32) × (Nat → Int32)) => [(m0, .inr (4, moF a u.1)), ((a 0), .inl (dA 0, 4, .inl (mn4 wn kn pn lw))), ((a 1), .inl (dA 0, 5, .inl att)), ((a 2), .inl (dA 0, 5, .inl wal)), ((a 3), .inl (dA 0, 5, .inl fin)), ((a 4), .inl (dA 0, 6, .inl knd)), ((a 5), .inl (dA 0, 6, .inl fig)), ((a 6), .inl (dA 0, 6, .inl dri)), ((a 7), .inl (dA 0, 6, .inl wak)), ((a 8), .inl (dA 0, 8, .inl pla)), ((a 21), .inl (dA 0, 16, .inl u.2.1)), ((a 25), .inl (dA 0, 5, .inl u.2.2))])) (va_A [(m0, .inr (4, moF a v)), ((a 0), .inl (dA 0, 4, .inl (mn4 wn kn pn lw))), ((a 1), .inl (dA 0, 5, .inl att)), ((a 2), .inl (dA 0, 5, .inl wal)), ((a 3), .inl (dA 0, 5, .inl fin)), ((a 4), .inl (dA 0, 6, .inl knd)), ((a 5), .inl (dA 0, 6, .inl fig)), ((a 6), .inl (dA 0, 6, .inl dri)), ((a 7), .inl (dA 0, 6, .inl wak)), ((a 8), .inl (dA 0, 8, .inl pla)), ((a 21), .inl (dA 0, 16, .inl lkd)), ((a 25), .inl (dA 0, 5, .inl cam))] sz)) 0 0 (va_A [(m0, .inr (4, moF a v)), ((a 0), .inl (dA 0, 4, .inl (mn4 wn kn pn lw))), ((a 1), .inl (dA 0, 5, .inl att)), ((a 2), .inl (dA 0, 5, .inl wal)), ((a 3), .inl (dA 0, 5, .inl fin)), ((a 4), .inl (dA 0, 6, .inl knd)), ((a 5), .inl (dA 0, 6, .inl fig)), ((a 6), .inl (dA 0, 6, .inl dri)), ((a 7), .inl (dA 0, 6, .inl wak)), ((a 8), .inl (dA 0, 8, .inl pla)), ((a 21), .inl (dA 0, 16, .inl lkd)), ((a 25), .inl (dA 0, 5, .inl cam))] sz) := by
  refine ofRw (cc := cX5_bestFigure) (maxL := 2) (ret := (some .int)) (Qf := fun A => va_Qi (fun (r : Int32) (u : (Nat → Int32) × (Nat → Int32) × (Nat → Int32)) => r = sp_bfq kn (fun kk => sp_best (dri kk) lw (wak kk) pn pla att wal fin wn) k ∧ sp_vk u.1 v) (RwB dC dI A (fun (u : (Nat → Int32) × (Nat → Int32) × (Nat → Int32)) => [(m0, .inr (4, moF a u.1)), ((a 0), .inl (dA 0, 4, .inl (mn4 wn kn pn lw))), ((a 1), .inl (dA 0, 5, .inl att)), ((a 2), .inl (dA 0, 5, .inl wal)), ((a 3), .inl (dA 0, 5, .inl fin)), ((a 4), .inl (dA 0, 6, .inl knd)), ((a 5), .inl (dA 0, 6, .inl fig)), ((a 6), .inl (dA 0, 6, .inl dri)), ((a 7), .inl (dA 0, 6, .inl wak)), ((a 8), .inl (dA 0, 8, .inl pla)), ((a 21), .inl (dA 0, 16, .inl u.2.1)), ((a 25), .inl (dA 0, 5, .inl u.2.2))])) A) (by decide) rfl (fun w h => List.mem_cons_of_mem _ h) (Nat.le_of_ble_eq_true rfl) ?_
  intro p e s m below meth c ls A hx hb hr hlocks hml hts hown hP hK hD hA hnm hsz hl
  have hS : va_S A s.heap s.heap [] := va_S.rf
  obtain ⟨H, hHe⟩ : ∃ H, H = s.heap := ⟨_, rfl⟩
  obtain ⟨locs, hlo⟩ : ∃ z : List Loc, z = [] := ⟨_, rfl⟩
  have hS : va_S A s.heap H locs := by rw [hHe, hlo]; exact hS
  suffices K0 : W p l e _ s m _ below meth c H locs 0 0 _ _ by rw [hHe, hlo] at K0; exact K0
  rw [← hHe] at hP
  have hown : s.vm.findClass RX5 = some m.cls := hown
  have hl : lv_has ls 2 [(0, .ref m0), (1, .int k)] := hl
  refine lv_aload_n hx hb dX5_bestFigure_0 rfl (lv_at hl 0 rfl) ?_
  refine lv_iload_n hx hb dX5_bestFigure_1 rfl (lv_at hl 1 rfl) ?_
  refine ro_V (rest := []) (As := [.int k]) (wc := [(m0, .inr (4, moF a v)), ((a 0), .inl (dA 0, 4, .inl (mn4 wn kn pn lw)))]) ⟨hx, hb, hml, hown, hts⟩ (met_X5_isLooker m0 a v wn kn pn lw k) (cwV 1 hts (lw_V q1256 q1258 qs25 q46 q1259) rfl rfl rfl hdV_X5_isLooker ⟨Nat.le_of_ble_eq_true rfl, Nat.le_of_ble_eq_true rfl⟩) hK hP [0, 1] rfl (va_recv hK.1 hP (ci := 4) (q0 := 0) rfl rfl) rfl hl.1 rfl (Nat.le_of_ble_eq_true rfl) dX5_bestFigure_2 ⟨Nat.le_of_ble_eq_true rfl, Nat.le_of_ble_eq_true rfl⟩ (fun r_2 h_2 => ?_)
  obtain rfl : r_2 = bI (0 ≤ k ∧ k ≤ nI kn - 1) := h_2
  refine lv_if_eq (tgt := 33) hx hb dX5_bestFigure_5 (by decide) (fun c_5 => ?_) (fun c_5 => ?_)
  · skip
    have c_5 := bI_eq0 (P := 0 ≤ k ∧ k ≤ nI kn - 1) rfl c_5
    refine lv_iconst (v := (-1)) hx hb dX5_bestFigure_33 (by decide) ?_
    refine rt_i hx hb hr hlocks dX5_bestFigure_34 hP hD hS (Nat.le_of_ble_eq_true rfl) (Nat.le_of_ble_eq_true rfl) (v, lkd, cam) [0, 1, 2, 3, 4, 5, 6, 7, 8, 9, 10, 11] rfl (by decide) ?_
    exact ⟨by rw [sp_bfq, if_neg c_5], vk_rf v⟩
  · skip
    have c_5 := bI_ne0 (P := 0 ≤ k ∧ k ≤ nI kn - 1) rfl c_5
    obtain ⟨kk, hkk, rfl⟩ := ix_nI (by omega) c_5
    have e_kk : (nI kk).toNatClampNeg = kk := nI_clamp (by omega)
    refine lv_aload_n hx hb dX5_bestFigure_8 rfl (lv_at hl 0 rfl) ?_
    refine lv_aload_n hx hb dX5_bestFigure_9 rfl (lv_at hl 0 rfl) ?_
    refine va_get (D := (dC, dI)) (ci := 4) (v := .ref (a 6)) (C := RX5) (T := TX5) (N := 41) hx hb hts in_X5 hown hK.1 hP 0 rfl rfl 6 (by decide) (hts _ q1098) (fun _ h9 => h9) rfl dX5_bestFigure_10 ?_
    refine lv_iload_n hx hb dX5_bestFigure_13 rfl (lv_at hl 1 rfl) ?_
    refine va_iald hx hb hK.1 hP 7 0 rfl rfl (vp_in_nI (by omega) (by omega)) dX5_bestFigure_14 ?_
    refine lv_eqi (y := (dri kk)) (congrArg dri (nI_clamp (by omega))) ?_
    refine lv_aload_n hx hb dX5_bestFigure_15 rfl (lv_at hl 0 rfl) ?_
    refine va_get (D := (dC, dI)) (ci := 4) (v := .ref (a 7)) (C := RX5) (T := TX5) (N := 41) hx hb hts in_X5 hown hK.1 hP 0 rfl rfl 7 (by decide) (hts _ q1099) (fun _ h9 => h9) rfl dX5_bestFigure_16 ?_
    refine lv_iload_n hx hb dX5_bestFigure_19 rfl (lv_at hl 1 rfl) ?_
    refine va_iald hx hb hK.1 hP 8 0 rfl rfl (vp_in_nI (by omega) (by omega)) dX5_bestFigure_20 ?_
    refine lv_eqi (y := (wak kk)) (congrArg wak (nI_clamp (by omega))) ?_
    refine lv_aload_n hx hb dX5_bestFigure_21 rfl (lv_at hl 0 rfl) ?_
    refine va_get (D := (dC, dI)) (ci := 4) (v := .ref (a 0)) (C := RX5) (T := TX5) (N := 41) hx hb hts in_X5 hown hK.1 hP 0 rfl rfl 0 (by decide) (hts _ q1092) (fun _ h9 => h9) rfl dX5_bestFigure_22 ?_
    refine lv_iconst (v := 3) hx hb dX5_bestFigure_25 (by decide) ?_
    refine va_iald hx hb hK.1 hP 1 0 rfl rfl (vin (by decide)) dX5_bestFigure_26 ?_
    refine lv_eqi (y := lw) rfl ?_
    refine rw_i (wr := [((a 4), .inl (dA 0, 6, .inl knd)), ((a 5), .inl (dA 0, 6, .inl fig)), ((a 6), .inl (dA 0, 6, .inl dri)), ((a 7), .inl (dA 0, 6, .inl wak))]) (rw_V (rest := []) (As := [.int (dri kk), .int (wak kk), .int lw]) (wc := [(m0, .inr (4, moF a v)), ((a 0), .inl (dA 0, 4, .inl (mn4 wn kn pn lw))), ((a 1), .inl (dA 0, 5, .inl att)), ((a 2), .inl (dA 0, 5, .inl wal)), ((a 3), .inl (dA 0, 5, .inl fin)), ((a 8), .inl (dA 0, 8, .inl pla)), ((a 21), .inl (dA 0, 16, .inl lkd)), ((a 25), .inl (dA 0, 5, .inl cam))]) ⟨hx, hb, hml, hown, hts⟩ (met_X5_bestOf _ m0 a v wn kn pn lw att wal fin pla lkd cam (dri kk) (wak kk) lw (by assumption) (by assumption) (by assumption) (hwa kk hkk)) (cwV 3 hts (lw_V q1287 q1289 qs28 q46 q1290) rfl rfl rfl hdV_X5_bestOf ⟨Nat.le_of_ble_eq_true rfl, Nat.le_of_ble_eq_true rfl⟩) hK hP hD [0, 1, 2, 3, 4, 9, 10, 11] rfl (by decide) (va_recv hK.1 hP (ci := 4) (q0 := 0) rfl rfl) rfl hl.1 rfl (Nat.le_of_ble_eq_true rfl) dX5_bestFigure_27 ⟨Nat.le_of_ble_eq_true rfl, Nat.le_of_ble_eq_true rfl⟩) hP hD hS hA [0, 1, 2, 3, 4, 9, 10, 11] [5, 6, 7, 8] rfl rfl (by decide) (by decide) (fun r_27 u_27 H locs h_27 hz_27 hP hD hS => ?_)
    obtain ⟨v2_27, lkd2_27, cam2_27⟩ := u_27
    have hP : va_P (dC, dI) vwCl [((a 4), .inl (dA 0, 6, .inl knd)), ((a 5), .inl (dA 0, 6, .inl fig)), ((a 6), .inl (dA 0, 6, .inl dri)), ((a 7), .inl (dA 0, 6, .inl wak)), (m0, .inr (4, moF a v2_27)), ((a 0), .inl (dA 0, 4, .inl (mn4 wn kn pn lw))), ((a 1), .inl (dA 0, 5, .inl att)), ((a 2), .inl (dA 0, 5, .inl wal)), ((a 3), .inl (dA 0, 5, .inl fin)), ((a 8), .inl (dA 0, 8, .inl pla)), ((a 21), .inl (dA 0, 16, .inl lkd2_27)), ((a 25), .inl (dA 0, 5, .inl cam2_27))] H := hP
    have hD : va_D A [((a 4), .inl (dA 0, 6, .inl knd)), ((a 5), .inl (dA 0, 6, .inl fig)), ((a 6), .inl (dA 0, 6, .inl dri)), ((a 7), .inl (dA 0, 6, .inl wak)), (m0, .inr (4, moF a v2_27)), ((a 0), .inl (dA 0, 4, .inl (mn4 wn kn pn lw))), ((a 1), .inl (dA 0, 5, .inl att)), ((a 2), .inl (dA 0, 5, .inl wal)), ((a 3), .inl (dA 0, 5, .inl fin)), ((a 8), .inl (dA 0, 8, .inl pla)), ((a 21), .inl (dA 0, 16, .inl lkd2_27)), ((a 25), .inl (dA 0, 5, .inl cam2_27))] := hD
    have f_27 : sp_vk v2_27 v := h_27.2
    obtain rfl : r_27 = nI (sp_best (dri kk) lw (wak kk) pn pla att wal fin wn) := h_27.1
    refine lv_goto (tgt := 34) hx hb dX5_bestFigure_30 (by decide) ?_
    refine rt_i hx hb hr hlocks dX5_bestFigure_34 hP hD hS (Nat.le_of_ble_eq_true rfl) (Nat.le_of_ble_eq_true rfl) (v2_27, lkd2_27, cam2_27) [4, 5, 6, 7, 8, 0, 1, 2, 3, 9, 10, 11] rfl (by decide) ?_
    exact ⟨by rw [sp_bfq, if_pos c_5, e_kk], f_27⟩
theorem hdS_X5_always : yX5_always.cls ≠ "java/lang/invoke/MethodHandle" ∧ yX5_always.cls ≠ "java/lang/invoke/VarHandle" ∧ (parseMethodDescriptor yX5_always.desc).map (fun d => d.parameters.length) = some 1 := by decide +kernel
theorem hdV_X5_always : yX5_always.cls = RX5 ∧ yX5_always.cls ≠ "java/lang/invoke/MethodHandle" ∧ yX5_always.cls ≠ "java/lang/invoke/VarHandle" ∧ (parseMethodDescriptor yX5_always.desc).map (fun d => d.parameters.length) = some 1 := ⟨rfl, hdS_X5_always⟩
set_option maxHeartbeats 4000000 in
set_option maxRecDepth 100000 in
theorem met_X5_always {l : Launch} {dC : Nat → ClassId} {dI : Nat → Nat → Nat} {dA : Nat → ClassId} (sz : Nat) (m0 : Nat) (a : Nat → Nat) (v : Nat → Int32) (wn : Nat) (kn : Nat) (pn : Nat) (lw : Int32) (att : Nat → Int32) (wal : Nat → Int32) (fin : Nat → Int32) (knd : Nat → Int32) (fig : Nat → Int32) (dri : Nat → Int32) (wak : Nat → Int32) (pla : Nat → Int32) (lkd : Nat → Int32) (cam : Nat → Int32) (k : Int32) (hw5 : wn ≤ 5) (hk6 : kn ≤ 6) (hp8 : pn ≤ 8) (htn : ∀ w, w < wn → (0 ≤ att w ∧ att w ≤ 719) ∧ (0 ≤ wal w ∧ wal w ≤ 59)) (hwa : ∀ k, k < kn → 0 ≤ wak k ∧ wak k ≤ 719) : Met l yX5_always (ws_ yX5_always cX5_always 3 (some .int)) ({ frames := 11, cells := 0, slots := 0, locals := 900 } : Room) (RwP dC dI dA [.ref m0, .int k] [(m0, .inr (4, moF a v)), ((a 0), .inl (dA 0, 4, .inl (mn4 wn kn pn lw))), ((a 1), .inl (dA 0, 5, .inl att)), ((a 2), .inl (dA 0, 5, .inl wal)), ((a 3), .inl (dA 0, 5, .inl fin)), ((a 4), .inl (dA 0, 6, .inl knd)), ((a 5), .inl (dA 0, 6, .inl fig)), ((a 6), .inl (dA 0, 6, .inl dri)), ((a 7), .inl (dA 0, 6, .inl wak)), ((a 8), .inl (dA 0, 8, .inl pla)), ((a 21), .inl (dA 0, 16, .inl lkd)), ((a 25), .inl (dA 0, 5, .inl cam))] sz) (va_Qi (fun (r : Int32) (u : (Nat → Int32) × (Nat → Int32) × (Nat → Int32)) => r = sp_fstq kn (fun kk f => decide (dLt (sp_any 1 (nI f) (dri kk) lw (wak kk) pn pla att wal fin wn) = 0)) k ∧ sp_vk u.1 v) (RwB dC dI (va_A [(m0, .inr (4, moF a v)), ((a 0), .inl (dA 0, 4, .inl (mn4 wn kn pn lw))), ((a 1), .inl (dA 0, 5, .inl att)), ((a 2), .inl (dA 0, 5, .inl wal)), ((a 3), .inl (dA 0, 5, .inl fin)), ((a 4), .inl (dA 0, 6, .inl knd)), ((a 5), .inl (dA 0, 6, .inl fig)), ((a 6), .inl (dA 0, 6, .inl dri)), ((a 7), .inl (dA 0, 6, .inl wak)), ((a 8), .inl (dA 0, 8, .inl pla)), ((a 21), .inl (dA 0, 16, .inl lkd)), ((a 25), .inl (dA 0, 5, .inl cam))] sz) (fun (u : (Nat → Int32) × (Nat → Int32) × (Nat → Int32)) => [(m0, .inr (4, moF a u.1)), ((a 0), .inl (dA 0, 4, .inl (mn4 wn kn pn lw))), ((a 1), .inl (dA 0, 5, .inl att)), ((a 2), .inl (dA 0, 5, .inl wal)), ((a 3), .inl (dA 0, 5, .inl fin)), ((a 4), .inl (dA 0, 6, .inl knd)), ((a 5), .inl (dA 0, 6, .inl fig)), ((a 6), .inl (dA 0, 6, .inl dri)), ((a 7), .inl (dA 0, 6, .inl wak)), ((a 8), .inl (dA 0, 8, .inl pla)), ((a 21), .inl (dA 0, 16, .inl u.2.1)), ((a 25), .inl (dA 0, 5, .inl u.2.2))])) (va_A [(m0, .inr (4, moF a v)), ((a 0), .inl (dA 0, 4, .inl (mn4 wn kn pn lw))), ((a 1), .inl (dA 0, 5, .inl att)), ((a 2), .inl (dA 0, 5, .inl wal)), ((a 3), .inl (dA 0, 5, .inl fin)), ((a 4), .inl (dA 0, 6, .inl knd)), ((a 5), .inl (dA 0, 6, .inl fig)), ((a 6), .inl (dA 0, 6, .inl dri)), ((a 7), .inl (dA 0, 6, .inl wak)), ((a 8), .inl (dA 0, 8, .inl pla)), ((a 21), .inl (dA 0, 16, .inl lkd)), ((a 25), .inl (dA 0, 5, .inl cam))] sz)) 0 0 (va_A [(m0, .inr (4, moF a v)), ((a 0), .inl (dA 0, 4, .inl (mn4 wn kn pn lw))), ((a 1), .inl (dA 0, 5, .inl att)), ((a 2), .inl (dA 0, 5, .inl wal)), ((a 3), .inl (dA 0, 5, .inl fin)), ((a 4), .inl (dA 0, 6, .inl knd)), ((a 5), .inl (dA 0, 6, .inl fig)), ((a 6), .inl (dA 0, 6, .inl dri)), ((a 7), .inl (dA 0, 6, .inl wak)), ((a 8), .inl (dA 0, 8, .inl pla)), ((a 21), .inl (dA 0, 16, .inl lkd)), ((a 25), .inl (dA 0, 5, .inl cam))] sz) := by
  refine ofRw (cc := cX5_always) (maxL := 3) (ret := (some .int)) (Qf := fun A => va_Qi (fun (r : Int32) (u : (Nat → Int32) × (Nat → Int32) × (Nat → Int32)) => r = sp_fstq kn (fun kk f => decide (dLt (sp_any 1 (nI f) (dri kk) lw (wak kk) pn pla att wal fin wn) = 0)) k ∧ sp_vk u.1 v) (RwB dC dI A (fun (u : (Nat → Int32) × (Nat → Int32) × (Nat → Int32)) => [(m0, .inr (4, moF a u.1)), ((a 0), .inl (dA 0, 4, .inl (mn4 wn kn pn lw))), ((a 1), .inl (dA 0, 5, .inl att)), ((a 2), .inl (dA 0, 5, .inl wal)), ((a 3), .inl (dA 0, 5, .inl fin)), ((a 4), .inl (dA 0, 6, .inl knd)), ((a 5), .inl (dA 0, 6, .inl fig)), ((a 6), .inl (dA 0, 6, .inl dri)), ((a 7), .inl (dA 0, 6, .inl wak)), ((a 8), .inl (dA 0, 8, .inl pla)), ((a 21), .inl (dA 0, 16, .inl u.2.1)), ((a 25), .inl (dA 0, 5, .inl u.2.2))])) A) (by decide) rfl (fun w h => List.mem_cons_of_mem _ h) (Nat.le_of_ble_eq_true rfl) ?_
  intro p e s m below meth c ls A hx hb hr hlocks hml hts hown hP hK hD hA hnm hsz hl
  have hS : va_S A s.heap s.heap [] := va_S.rf
  obtain ⟨H, hHe⟩ : ∃ H, H = s.heap := ⟨_, rfl⟩
  obtain ⟨locs, hlo⟩ : ∃ z : List Loc, z = [] := ⟨_, rfl⟩
  have hS : va_S A s.heap H locs := by rw [hHe, hlo]; exact hS
  suffices K0 : W p l e _ s m _ below meth c H locs 0 0 _ _ by rw [hHe, hlo] at K0; exact K0
  rw [← hHe] at hP
  have hown : s.vm.findClass RX5 = some m.cls := hown
  have hl : lv_has ls 3 [(0, .ref m0), (1, .int k)] := hl
  refine lv_aload_n hx hb dX5_always_0 rfl (lv_at hl 0 rfl) ?_
  refine lv_iload_n hx hb dX5_always_1 rfl (lv_at hl 1 rfl) ?_
  refine ro_V (rest := []) (As := [.int k]) (wc := [(m0, .inr (4, moF a v)), ((a 0), .inl (dA 0, 4, .inl (mn4 wn kn pn lw)))]) ⟨hx, hb, hml, hown, hts⟩ (met_X5_isLooker m0 a v wn kn pn lw k) (cwV 1 hts (lw_V q1256 q1258 qs25 q46 q1259) rfl rfl rfl hdV_X5_isLooker ⟨Nat.le_of_ble_eq_true rfl, Nat.le_of_ble_eq_true rfl⟩) hK hP [0, 1] rfl (va_recv hK.1 hP (ci := 4) (q0 := 0) rfl rfl) rfl hl.1 rfl (Nat.le_of_ble_eq_true rfl) dX5_always_2 ⟨Nat.le_of_ble_eq_true rfl, Nat.le_of_ble_eq_true rfl⟩ (fun r_2 h_2 => ?_)
  obtain rfl : r_2 = bI (0 ≤ k ∧ k ≤ nI kn - 1) := h_2
  refine lv_if_ne (tgt := 10) hx hb dX5_always_5 (by decide) (fun c_5 => ?_) (fun c_5 => ?_)
  · skip
    have c_5 := bI_ne0 (P := 0 ≤ k ∧ k ≤ nI kn - 1) rfl c_5
    obtain ⟨kk, hkk, rfl⟩ := ix_nI (by omega) c_5
    have e_kk : (nI kk).toNatClampNeg = kk := nI_clamp (by omega)
    refine lv_iconst (v := 0) hx hb dX5_always_10 (by decide) ?_
    refine lv_istore_n (lv' := [(2, .int 0), (0, .ref m0), (1, .int (nI kk))]) hx hb dX5_always_11 rfl hl (by decide) rfl (fun ls hl => ?_)
    have K_12 : ∀ (fuel : Nat), ∀ (f : Nat) (v1 : Nat → Int32) (lk1 : Nat → Int32) (cm1 : Nat → Int32), (f ≤ 10) → (10 < f + fuel) → (sp_fst (fun f => decide (dLt (sp_any 1 (nI f) (dri kk) lw (wak kk) pn pla att wal fin wn) = 0)) fuel f = sp_fst (fun f => decide (dLt (sp_any 1 (nI f) (dri kk) lw (wak kk) pn pla att wal fin wn) = 0)) 11 0) → (sp_vk v1 v) → ∀ (H : Heap) (locs : List Loc) (ls : Array Slot), va_P (dC, dI) vwCl [(m0, .inr (4, moF a v1)), ((a 0), .inl (dA 0, 4, .inl (mn4 wn kn pn lw))), ((a 1), .inl (dA 0, 5, .inl att)), ((a 2), .inl (dA 0, 5, .inl wal)), ((a 3), .inl (dA 0, 5, .inl fin)), ((a 4), .inl (dA 0, 6, .inl knd)), ((a 5), .inl (dA 0, 6, .inl fig)), ((a 6), .inl (dA 0, 6, .inl dri)), ((a 7), .inl (dA 0, 6, .inl wak)), ((a 8), .inl (dA 0, 8, .inl pla)), ((a 21), .inl (dA 0, 16, .inl lk1)), ((a 25), .inl (dA 0, 5, .inl cm1))] H → va_D A [(m0, .inr (4, moF a v1)), ((a 0), .inl (dA 0, 4, .inl (mn4 wn kn pn lw))), ((a 1), .inl (dA 0, 5, .inl att)), ((a 2), .inl (dA 0, 5, .inl wal)), ((a 3), .inl (dA 0, 5, .inl fin)), ((a 4), .inl (dA 0, 6, .inl knd)), ((a 5), .inl (dA 0, 6, .inl fig)), ((a 6), .inl (dA 0, 6, .inl dri)), ((a 7), .inl (dA 0, 6, .inl wak)), ((a 8), .inl (dA 0, 8, .inl pla)), ((a 21), .inl (dA 0, 16, .inl lk1)), ((a 25), .inl (dA 0, 5, .inl cm1))] → va_S A s.heap H locs → lv_has ls 3 [(0, .ref m0), (1, .int (nI kk)), (2, .int (nI f))] → W p l e ({ frames := 11, cells := 0, slots := 0, locals := 900 } : Room) s m ([.ref m0, .int (nI kk)] : List Value).toArray below meth c H locs 0 0 (MQ below (va_Qi (fun (r : Int32) (u : (Nat → Int32) × (Nat → Int32) × (Nat → Int32)) => r = sp_fstq kn (fun kk f => decide (dLt (sp_any 1 (nI f) (dri kk) lw (wak kk) pn pla att wal fin wn) = 0)) (nI kk) ∧ sp_vk u.1 v) (RwB dC dI A (fun (u : (Nat → Int32) × (Nat → Int32) × (Nat → Int32)) => [(m0, .inr (4, moF a u.1)), ((a 0), .inl (dA 0, 4, .inl (mn4 wn kn pn lw))), ((a 1), .inl (dA 0, 5, .inl att)), ((a 2), .inl (dA 0, 5, .inl wal)), ((a 3), .inl (dA 0, 5, .inl fin)), ((a 4), .inl (dA 0, 6, .inl knd)), ((a 5), .inl (dA 0, 6, .inl fig)), ((a 6), .inl (dA 0, 6, .inl dri)), ((a 7), .inl (dA 0, 6, .inl wak)), ((a 8), .inl (dA 0, 8, .inl pla)), ((a 21), .inl (dA 0, 16, .inl u.2.1)), ((a 25), .inl (dA 0, 5, .inl u.2.2))])) A) ([.ref m0, .int (nI kk)] : List Value).toArray s 0 0 A) (F0 m 12 ls []) := by
      intro fuel
      induction fuel with
      | zero =>
        intro f v1 lk1 cm1 hf0 hf hv hv1 H locs ls hP hD hS hl
        exact absurd hf (by omega)
      | succ fuel ih_12 =>
        intro f v1 lk1 cm1 hf0 hf hv hv1 H locs ls hP hD hS hl
        refine lv_iload_n hx hb dX5_always_12 rfl (lv_at hl 2 rfl) ?_
        refine lv_bipush (v := 10) hx hb dX5_always_13 (by decide) ?_
        refine lv_icmp_ge (tgt := 58) hx hb dX5_always_15 (by decide) (fun c_15 => ?_) (fun c_15 => ?_)
        · skip
          have n_c_15 : 10 ≤ f := (nI_leI (a := 10) (b := f) (by omega) (by omega)).mp c_15
          refine lv_bipush (v := (-4)) hx hb dX5_always_58 (by decide) ?_
          refine rt_i hx hb hr hlocks dX5_always_60 hP hD hS (Nat.le_of_ble_eq_true rfl) (Nat.le_of_ble_eq_true rfl) (v1, lk1, cm1) [0, 1, 2, 3, 4, 5, 6, 7, 8, 9, 10, 11] rfl (by decide) ?_
          exact ⟨by rw [sp_fstq, if_pos c_5, e_kk, ← hv, sp_fst, if_pos (by omega)], hv1⟩
        · skip
          have n_c_15 : ¬ 10 ≤ f := fun h9 => c_15 ((nI_leI (a := 10) (b := f) (by omega) (by omega)).mpr h9)
          refine lv_aload_n hx hb dX5_always_18 rfl (lv_at hl 0 rfl) ?_
          refine lv_iconst (v := 1) hx hb dX5_always_19 (by decide) ?_
          refine lv_iload_n hx hb dX5_always_20 rfl (lv_at hl 2 rfl) ?_
          refine lv_aload_n hx hb dX5_always_21 rfl (lv_at hl 0 rfl) ?_
          refine va_get (D := (dC, dI)) (ci := 4) (v := .ref (a 6)) (C := RX5) (T := TX5) (N := 41) hx hb hts in_X5 hown hK.1 hP 0 rfl rfl 6 (by decide) (hts _ q1098) (fun _ h9 => h9) rfl dX5_always_22 ?_
          refine lv_iload_n hx hb dX5_always_25 rfl (lv_at hl 1 rfl) ?_
          refine va_iald hx hb hK.1 hP 7 0 rfl rfl (vp_in_nI (by omega) (by omega)) dX5_always_26 ?_
          refine lv_eqi (y := (dri kk)) (congrArg dri (nI_clamp (by omega))) ?_
          refine lv_aload_n hx hb dX5_always_27 rfl (lv_at hl 0 rfl) ?_
          refine va_get (D := (dC, dI)) (ci := 4) (v := .ref (a 7)) (C := RX5) (T := TX5) (N := 41) hx hb hts in_X5 hown hK.1 hP 0 rfl rfl 7 (by decide) (hts _ q1099) (fun _ h9 => h9) rfl dX5_always_28 ?_
          refine lv_iload_n hx hb dX5_always_31 rfl (lv_at hl 1 rfl) ?_
          refine va_iald hx hb hK.1 hP 8 0 rfl rfl (vp_in_nI (by omega) (by omega)) dX5_always_32 ?_
          refine lv_eqi (y := (wak kk)) (congrArg wak (nI_clamp (by omega))) ?_
          refine lv_aload_n hx hb dX5_always_33 rfl (lv_at hl 0 rfl) ?_
          refine va_get (D := (dC, dI)) (ci := 4) (v := .ref (a 0)) (C := RX5) (T := TX5) (N := 41) hx hb hts in_X5 hown hK.1 hP 0 rfl rfl 0 (by decide) (hts _ q1092) (fun _ h9 => h9) rfl dX5_always_34 ?_
          refine lv_iconst (v := 3) hx hb dX5_always_37 (by decide) ?_
          refine va_iald hx hb hK.1 hP 1 0 rfl rfl (vin (by decide)) dX5_always_38 ?_
          refine lv_eqi (y := lw) rfl ?_
          refine rw_i (wr := [((a 4), .inl (dA 0, 6, .inl knd)), ((a 5), .inl (dA 0, 6, .inl fig)), ((a 6), .inl (dA 0, 6, .inl dri)), ((a 7), .inl (dA 0, 6, .inl wak))]) (rw_V (rest := []) (As := [.int 1, .int (nI f), .int (dri kk), .int (wak kk), .int lw]) (wc := [(m0, .inr (4, moF a v1)), ((a 0), .inl (dA 0, 4, .inl (mn4 wn kn pn lw))), ((a 1), .inl (dA 0, 5, .inl att)), ((a 2), .inl (dA 0, 5, .inl wal)), ((a 3), .inl (dA 0, 5, .inl fin)), ((a 8), .inl (dA 0, 8, .inl pla)), ((a 21), .inl (dA 0, 16, .inl lk1)), ((a 25), .inl (dA 0, 5, .inl cm1))]) ⟨hx, hb, hml, hown, hts⟩ (met_X5_dayOf_2f _ m0 a v1 wn kn pn lw att wal fin pla lk1 cm1 1 (nI f) (dri kk) (wak kk) lw (by assumption) (by assumption) (by assumption) (hwa kk hkk)) (cwV 5 hts (lw_V q1283 q1285 qs27 q46 q1286) rfl rfl rfl hdV_X5_dayOf_2 ⟨Nat.le_of_ble_eq_true rfl, Nat.le_of_ble_eq_true rfl⟩) hK hP hD [0, 1, 2, 3, 4, 9, 10, 11] rfl (by decide) (va_recv hK.1 hP (ci := 4) (q0 := 0) rfl rfl) rfl hl.1 rfl (Nat.le_of_ble_eq_true rfl) dX5_always_39 ⟨Nat.le_of_ble_eq_true rfl, Nat.le_of_ble_eq_true rfl⟩) hP hD hS hA [0, 1, 2, 3, 4, 9, 10, 11] [5, 6, 7, 8] rfl rfl (by decide) (by decide) (fun r_39 u_39 H locs h_39 hz_39 hP hD hS => ?_)
          obtain ⟨v2_39, lkd2_39, cam2_39⟩ := u_39
          have hP : va_P (dC, dI) vwCl [((a 4), .inl (dA 0, 6, .inl knd)), ((a 5), .inl (dA 0, 6, .inl fig)), ((a 6), .inl (dA 0, 6, .inl dri)), ((a 7), .inl (dA 0, 6, .inl wak)), (m0, .inr (4, moF a v2_39)), ((a 0), .inl (dA 0, 4, .inl (mn4 wn kn pn lw))), ((a 1), .inl (dA 0, 5, .inl att)), ((a 2), .inl (dA 0, 5, .inl wal)), ((a 3), .inl (dA 0, 5, .inl fin)), ((a 8), .inl (dA 0, 8, .inl pla)), ((a 21), .inl (dA 0, 16, .inl lkd2_39)), ((a 25), .inl (dA 0, 5, .inl cam2_39))] H := hP
          have hD : va_D A [((a 4), .inl (dA 0, 6, .inl knd)), ((a 5), .inl (dA 0, 6, .inl fig)), ((a 6), .inl (dA 0, 6, .inl dri)), ((a 7), .inl (dA 0, 6, .inl wak)), (m0, .inr (4, moF a v2_39)), ((a 0), .inl (dA 0, 4, .inl (mn4 wn kn pn lw))), ((a 1), .inl (dA 0, 5, .inl att)), ((a 2), .inl (dA 0, 5, .inl wal)), ((a 3), .inl (dA 0, 5, .inl fin)), ((a 8), .inl (dA 0, 8, .inl pla)), ((a 21), .inl (dA 0, 16, .inl lkd2_39)), ((a 25), .inl (dA 0, 5, .inl cam2_39))] := hD
          have f_39 : dyOK (sp_any 1 (nI f) (dri kk) lw (wak kk) pn pla att wal fin wn) wn v1 v2_39 lkd2_39 cam2_39 := h_39.2
          obtain rfl : r_39 = sp_cost (sp_any 1 (nI f) (dri kk) lw (wak kk) pn pla att wal fin wn) := h_39.1
          refine lv_pop hx hb dX5_always_42 rfl ?_
          obtain ⟨d1, d2, d3, d4, d5, d6, d7, d8, d9⟩ := f_39
          refine lv_aload_n hx hb dX5_always_43 rfl (lv_at hl 0 rfl) ?_
          refine va_get (D := (dC, dI)) (ci := 4) (v := .int (v2_39 22)) (C := RX5) (T := TX5) (N := 41) hx hb hts in_X5 hown hK.1 hP 4 rfl rfl 22 (by decide) (hts _ q1114) (fun _ h9 => h9) rfl dX5_always_44 ?_
          refine lv_if_ne (tgt := 52) hx hb dX5_always_47 (by decide) (fun c_47 => ?_) (fun c_47 => ?_)
          · skip
            refine lv_iinc (v := (nI (f + 1))) (lv' := [(2, .int (nI (f + 1))), (0, .ref m0), (1, .int (nI kk))]) hx hb dX5_always_52 hl (k := 2) rfl (nI_1 f) (by decide) rfl (fun ls hl => ?_)
            refine lv_goto (tgt := 12) hx hb dX5_always_55 (by decide) ?_
            exact ih_12 (f + 1) v2_39 lkd2_39 cam2_39 (by omega) (by omega) (by rw [← hv, sp_fst, if_neg (by omega), if_neg (by rw [decide_eq_true_eq, ← d4]; exact c_47)]) (vk_tr d1 hv1) H locs ls (hP.sub [4, 5, 6, 7, 8, 0, 1, 2, 3, 9, 10, 11] rfl) (hD.sub [4, 5, 6, 7, 8, 0, 1, 2, 3, 9, 10, 11] (by decide) rfl) hS (lv_sub hl [1, 2, 0] rfl)
          · skip
            refine lv_iload_n hx hb dX5_always_50 rfl (lv_at hl 2 rfl) ?_
            refine rt_i hx hb hr hlocks dX5_always_51 hP hD hS (Nat.le_of_ble_eq_true rfl) (Nat.le_of_ble_eq_true rfl) (v2_39, lkd2_39, cam2_39) [4, 5, 6, 7, 8, 0, 1, 2, 3, 9, 10, 11] rfl (by decide) ?_
            exact ⟨by rw [sp_fstq, if_pos c_5, e_kk, ← hv, sp_fst, if_neg (by omega), if_pos (by rw [decide_eq_true_eq, ← d4]; exact c_47)], vk_tr d1 hv1⟩
    exact K_12 11 0 v lkd cam (by omega) (by omega) rfl (vk_rf v) H locs ls hP hD hS (lv_sub hl [1, 2, 0] rfl)
  · skip
    have c_5 := bI_eq0 (P := 0 ≤ k ∧ k ≤ nI kn - 1) rfl c_5
    refine lv_iconst (v := (-1)) hx hb dX5_always_8 (by decide) ?_
    refine rt_i hx hb hr hlocks dX5_always_9 hP hD hS (Nat.le_of_ble_eq_true rfl) (Nat.le_of_ble_eq_true rfl) (v, lkd, cam) [0, 1, 2, 3, 4, 5, 6, 7, 8, 9, 10, 11] rfl (by decide) ?_
    exact ⟨by rw [sp_fstq]; first | rw [if_neg c_5], vk_rf v⟩
theorem hdS_X5_edge : yX5_edge.cls ≠ "java/lang/invoke/MethodHandle" ∧ yX5_edge.cls ≠ "java/lang/invoke/VarHandle" ∧ (parseMethodDescriptor yX5_edge.desc).map (fun d => d.parameters.length) = some 2 := by decide +kernel
theorem hdV_X5_edge : yX5_edge.cls = RX5 ∧ yX5_edge.cls ≠ "java/lang/invoke/MethodHandle" ∧ yX5_edge.cls ≠ "java/lang/invoke/VarHandle" ∧ (parseMethodDescriptor yX5_edge.desc).map (fun d => d.parameters.length) = some 2 := ⟨rfl, hdS_X5_edge⟩
set_option maxHeartbeats 4000000 in
set_option maxRecDepth 100000 in
theorem met_X5_edge {l : Launch} {dC : Nat → ClassId} {dI : Nat → Nat → Nat} {dA : Nat → ClassId} (sz : Nat) (m0 : Nat) (a : Nat → Nat) (v : Nat → Int32) (wn : Nat) (kn : Nat) (pn : Nat) (lw : Int32) (att : Nat → Int32) (wal : Nat → Int32) (fin : Nat → Int32) (knd : Nat → Int32) (fig : Nat → Int32) (dri : Nat → Int32) (wak : Nat → Int32) (pla : Nat → Int32) (lkd : Nat → Int32) (cam : Nat → Int32) (k : Int32) (w : Int32) (hw5 : wn ≤ 5) (hk6 : kn ≤ 6) (hp8 : pn ≤ 8) (htn : ∀ w, w < wn → (0 ≤ att w ∧ att w ≤ 719) ∧ (0 ≤ wal w ∧ wal w ≤ 59)) (hwa : ∀ k, k < kn → 0 ≤ wak k ∧ wak k ≤ 719) : Met l yX5_edge (ws_ yX5_edge cX5_edge 4 (some .int)) ({ frames := 11, cells := 0, slots := 0, locals := 900 } : Room) (RwP dC dI dA [.ref m0, .int k, .int w] [(m0, .inr (4, moF a v)), ((a 0), .inl (dA 0, 4, .inl (mn4 wn kn pn lw))), ((a 1), .inl (dA 0, 5, .inl att)), ((a 2), .inl (dA 0, 5, .inl wal)), ((a 3), .inl (dA 0, 5, .inl fin)), ((a 4), .inl (dA 0, 6, .inl knd)), ((a 5), .inl (dA 0, 6, .inl fig)), ((a 6), .inl (dA 0, 6, .inl dri)), ((a 7), .inl (dA 0, 6, .inl wak)), ((a 8), .inl (dA 0, 8, .inl pla)), ((a 21), .inl (dA 0, 16, .inl lkd)), ((a 25), .inl (dA 0, 5, .inl cam))] sz) (va_Qi (fun (r : Int32) (u : (Nat → Int32) × (Nat → Int32) × (Nat → Int32)) => r = sp_edgeq kn wn (fun kk ww f => decide (dCm (sp_any 2 (nI f) (dri kk) lw (wak kk) pn pla att wal fin wn) ww ≤ att ww)) k w ∧ sp_vk u.1 v) (RwB dC dI (va_A [(m0, .inr (4, moF a v)), ((a 0), .inl (dA 0, 4, .inl (mn4 wn kn pn lw))), ((a 1), .inl (dA 0, 5, .inl att)), ((a 2), .inl (dA 0, 5, .inl wal)), ((a 3), .inl (dA 0, 5, .inl fin)), ((a 4), .inl (dA 0, 6, .inl knd)), ((a 5), .inl (dA 0, 6, .inl fig)), ((a 6), .inl (dA 0, 6, .inl dri)), ((a 7), .inl (dA 0, 6, .inl wak)), ((a 8), .inl (dA 0, 8, .inl pla)), ((a 21), .inl (dA 0, 16, .inl lkd)), ((a 25), .inl (dA 0, 5, .inl cam))] sz) (fun (u : (Nat → Int32) × (Nat → Int32) × (Nat → Int32)) => [(m0, .inr (4, moF a u.1)), ((a 0), .inl (dA 0, 4, .inl (mn4 wn kn pn lw))), ((a 1), .inl (dA 0, 5, .inl att)), ((a 2), .inl (dA 0, 5, .inl wal)), ((a 3), .inl (dA 0, 5, .inl fin)), ((a 4), .inl (dA 0, 6, .inl knd)), ((a 5), .inl (dA 0, 6, .inl fig)), ((a 6), .inl (dA 0, 6, .inl dri)), ((a 7), .inl (dA 0, 6, .inl wak)), ((a 8), .inl (dA 0, 8, .inl pla)), ((a 21), .inl (dA 0, 16, .inl u.2.1)), ((a 25), .inl (dA 0, 5, .inl u.2.2))])) (va_A [(m0, .inr (4, moF a v)), ((a 0), .inl (dA 0, 4, .inl (mn4 wn kn pn lw))), ((a 1), .inl (dA 0, 5, .inl att)), ((a 2), .inl (dA 0, 5, .inl wal)), ((a 3), .inl (dA 0, 5, .inl fin)), ((a 4), .inl (dA 0, 6, .inl knd)), ((a 5), .inl (dA 0, 6, .inl fig)), ((a 6), .inl (dA 0, 6, .inl dri)), ((a 7), .inl (dA 0, 6, .inl wak)), ((a 8), .inl (dA 0, 8, .inl pla)), ((a 21), .inl (dA 0, 16, .inl lkd)), ((a 25), .inl (dA 0, 5, .inl cam))] sz)) 0 0 (va_A [(m0, .inr (4, moF a v)), ((a 0), .inl (dA 0, 4, .inl (mn4 wn kn pn lw))), ((a 1), .inl (dA 0, 5, .inl att)), ((a 2), .inl (dA 0, 5, .inl wal)), ((a 3), .inl (dA 0, 5, .inl fin)), ((a 4), .inl (dA 0, 6, .inl knd)), ((a 5), .inl (dA 0, 6, .inl fig)), ((a 6), .inl (dA 0, 6, .inl dri)), ((a 7), .inl (dA 0, 6, .inl wak)), ((a 8), .inl (dA 0, 8, .inl pla)), ((a 21), .inl (dA 0, 16, .inl lkd)), ((a 25), .inl (dA 0, 5, .inl cam))] sz) := by
  refine ofRw (cc := cX5_edge) (maxL := 4) (ret := (some .int)) (Qf := fun A => va_Qi (fun (r : Int32) (u : (Nat → Int32) × (Nat → Int32) × (Nat → Int32)) => r = sp_edgeq kn wn (fun kk ww f => decide (dCm (sp_any 2 (nI f) (dri kk) lw (wak kk) pn pla att wal fin wn) ww ≤ att ww)) k w ∧ sp_vk u.1 v) (RwB dC dI A (fun (u : (Nat → Int32) × (Nat → Int32) × (Nat → Int32)) => [(m0, .inr (4, moF a u.1)), ((a 0), .inl (dA 0, 4, .inl (mn4 wn kn pn lw))), ((a 1), .inl (dA 0, 5, .inl att)), ((a 2), .inl (dA 0, 5, .inl wal)), ((a 3), .inl (dA 0, 5, .inl fin)), ((a 4), .inl (dA 0, 6, .inl knd)), ((a 5), .inl (dA 0, 6, .inl fig)), ((a 6), .inl (dA 0, 6, .inl dri)), ((a 7), .inl (dA 0, 6, .inl wak)), ((a 8), .inl (dA 0, 8, .inl pla)), ((a 21), .inl (dA 0, 16, .inl u.2.1)), ((a 25), .inl (dA 0, 5, .inl u.2.2))])) A) (by decide) rfl (fun w h => List.mem_cons_of_mem _ h) (Nat.le_of_ble_eq_true rfl) ?_
  intro p e s m below meth c ls A hx hb hr hlocks hml hts hown hP hK hD hA hnm hsz hl
  have hS : va_S A s.heap s.heap [] := va_S.rf
  obtain ⟨H, hHe⟩ : ∃ H, H = s.heap := ⟨_, rfl⟩
  obtain ⟨locs, hlo⟩ : ∃ z : List Loc, z = [] := ⟨_, rfl⟩
  have hS : va_S A s.heap H locs := by rw [hHe, hlo]; exact hS
  suffices K0 : W p l e _ s m _ below meth c H locs 0 0 _ _ by rw [hHe, hlo] at K0; exact K0
  rw [← hHe] at hP
  have hown : s.vm.findClass RX5 = some m.cls := hown
  have hl : lv_has ls 4 [(0, .ref m0), (1, .int k), (2, .int w)] := hl
  refine lv_aload_n hx hb dX5_edge_0 rfl (lv_at hl 0 rfl) ?_
  refine lv_iload_n hx hb dX5_edge_1 rfl (lv_at hl 1 rfl) ?_
  refine ro_V (rest := []) (As := [.int k]) (wc := [(m0, .inr (4, moF a v)), ((a 0), .inl (dA 0, 4, .inl (mn4 wn kn pn lw)))]) ⟨hx, hb, hml, hown, hts⟩ (met_X5_isLooker m0 a v wn kn pn lw k) (cwV 1 hts (lw_V q1256 q1258 qs25 q46 q1259) rfl rfl rfl hdV_X5_isLooker ⟨Nat.le_of_ble_eq_true rfl, Nat.le_of_ble_eq_true rfl⟩) hK hP [0, 1] rfl (va_recv hK.1 hP (ci := 4) (q0 := 0) rfl rfl) rfl hl.1 rfl (Nat.le_of_ble_eq_true rfl) dX5_edge_2 ⟨Nat.le_of_ble_eq_true rfl, Nat.le_of_ble_eq_true rfl⟩ (fun r_2 h_2 => ?_)
  obtain rfl : r_2 = bI (0 ≤ k ∧ k ≤ nI kn - 1) := h_2
  refine lv_if_eq (tgt := 16) hx hb dX5_edge_5 (by decide) (fun c_5 => ?_) (fun c_5 => ?_)
  · skip
    have c_5 := bI_eq0 (P := 0 ≤ k ∧ k ≤ nI kn - 1) rfl c_5
    refine lv_iconst (v := (-1)) hx hb dX5_edge_16 (by decide) ?_
    refine rt_i hx hb hr hlocks dX5_edge_17 hP hD hS (Nat.le_of_ble_eq_true rfl) (Nat.le_of_ble_eq_true rfl) (v, lkd, cam) [0, 1, 2, 3, 4, 5, 6, 7, 8, 9, 10, 11] rfl (by decide) ?_
    exact ⟨by rw [sp_edgeq]; first | rw [if_neg c_5] | rw [if_pos c_5, if_neg c_13], vk_rf v⟩
  · skip
    have c_5 := bI_ne0 (P := 0 ≤ k ∧ k ≤ nI kn - 1) rfl c_5
    refine lv_aload_n hx hb dX5_edge_8 rfl (lv_at hl 0 rfl) ?_
    refine lv_iload_n hx hb dX5_edge_9 rfl (lv_at hl 2 rfl) ?_
    refine ro_V (rest := []) (As := [.int w]) (wc := [(m0, .inr (4, moF a v)), ((a 0), .inl (dA 0, 4, .inl (mn4 wn kn pn lw)))]) ⟨hx, hb, hml, hown, hts⟩ (met_X5_isWork m0 a v wn kn pn lw w) (cwV 1 hts (lw_V q1248 q1250 qs24 q46 q1251) rfl rfl rfl hdV_X5_isWork ⟨Nat.le_of_ble_eq_true rfl, Nat.le_of_ble_eq_true rfl⟩) hK hP [0, 1] rfl (va_recv hK.1 hP (ci := 4) (q0 := 0) rfl rfl) rfl hl.1 rfl (Nat.le_of_ble_eq_true rfl) dX5_edge_10 ⟨Nat.le_of_ble_eq_true rfl, Nat.le_of_ble_eq_true rfl⟩ (fun r_10 h_10 => ?_)
    obtain rfl : r_10 = bI (0 ≤ w ∧ w ≤ nI wn - 1) := h_10
    refine lv_if_ne (tgt := 18) hx hb dX5_edge_13 (by decide) (fun c_13 => ?_) (fun c_13 => ?_)
    · skip
      have c_13 := bI_ne0 (P := 0 ≤ w ∧ w ≤ nI wn - 1) rfl c_13
      obtain ⟨kk, hkk, rfl⟩ := ix_nI (by omega) c_5
      have e_kk : (nI kk).toNatClampNeg = kk := nI_clamp (by omega)
      obtain ⟨ww, hww, rfl⟩ := ix_nI (by omega) c_13
      have e_ww : (nI ww).toNatClampNeg = ww := nI_clamp (by omega)
      refine lv_iconst (v := 0) hx hb dX5_edge_18 (by decide) ?_
      refine lv_istore_n (lv' := [(3, .int 0), (0, .ref m0), (1, .int (nI kk)), (2, .int (nI ww))]) hx hb dX5_edge_19 rfl hl (by decide) rfl (fun ls hl => ?_)
      have K_20 : ∀ (fuel : Nat), ∀ (f : Nat) (v1 : Nat → Int32) (lk1 : Nat → Int32) (cm1 : Nat → Int32), (f ≤ 10) → (10 < f + fuel) → (sp_fst (fun f => decide (dCm (sp_any 2 (nI f) (dri kk) lw (wak kk) pn pla att wal fin wn) ww ≤ att ww)) fuel f = sp_fst (fun f => decide (dCm (sp_any 2 (nI f) (dri kk) lw (wak kk) pn pla att wal fin wn) ww ≤ att ww)) 11 0) → (sp_vk v1 v) → ∀ (H : Heap) (locs : List Loc) (ls : Array Slot), va_P (dC, dI) vwCl [(m0, .inr (4, moF a v1)), ((a 0), .inl (dA 0, 4, .inl (mn4 wn kn pn lw))), ((a 1), .inl (dA 0, 5, .inl att)), ((a 2), .inl (dA 0, 5, .inl wal)), ((a 3), .inl (dA 0, 5, .inl fin)), ((a 4), .inl (dA 0, 6, .inl knd)), ((a 5), .inl (dA 0, 6, .inl fig)), ((a 6), .inl (dA 0, 6, .inl dri)), ((a 7), .inl (dA 0, 6, .inl wak)), ((a 8), .inl (dA 0, 8, .inl pla)), ((a 21), .inl (dA 0, 16, .inl lk1)), ((a 25), .inl (dA 0, 5, .inl cm1))] H → va_D A [(m0, .inr (4, moF a v1)), ((a 0), .inl (dA 0, 4, .inl (mn4 wn kn pn lw))), ((a 1), .inl (dA 0, 5, .inl att)), ((a 2), .inl (dA 0, 5, .inl wal)), ((a 3), .inl (dA 0, 5, .inl fin)), ((a 4), .inl (dA 0, 6, .inl knd)), ((a 5), .inl (dA 0, 6, .inl fig)), ((a 6), .inl (dA 0, 6, .inl dri)), ((a 7), .inl (dA 0, 6, .inl wak)), ((a 8), .inl (dA 0, 8, .inl pla)), ((a 21), .inl (dA 0, 16, .inl lk1)), ((a 25), .inl (dA 0, 5, .inl cm1))] → va_S A s.heap H locs → lv_has ls 4 [(0, .ref m0), (1, .int (nI kk)), (2, .int (nI ww)), (3, .int (nI f))] → W p l e ({ frames := 11, cells := 0, slots := 0, locals := 900 } : Room) s m ([.ref m0, .int (nI kk), .int (nI ww)] : List Value).toArray below meth c H locs 0 0 (MQ below (va_Qi (fun (r : Int32) (u : (Nat → Int32) × (Nat → Int32) × (Nat → Int32)) => r = sp_edgeq kn wn (fun kk ww f => decide (dCm (sp_any 2 (nI f) (dri kk) lw (wak kk) pn pla att wal fin wn) ww ≤ att ww)) (nI kk) (nI ww) ∧ sp_vk u.1 v) (RwB dC dI A (fun (u : (Nat → Int32) × (Nat → Int32) × (Nat → Int32)) => [(m0, .inr (4, moF a u.1)), ((a 0), .inl (dA 0, 4, .inl (mn4 wn kn pn lw))), ((a 1), .inl (dA 0, 5, .inl att)), ((a 2), .inl (dA 0, 5, .inl wal)), ((a 3), .inl (dA 0, 5, .inl fin)), ((a 4), .inl (dA 0, 6, .inl knd)), ((a 5), .inl (dA 0, 6, .inl fig)), ((a 6), .inl (dA 0, 6, .inl dri)), ((a 7), .inl (dA 0, 6, .inl wak)), ((a 8), .inl (dA 0, 8, .inl pla)), ((a 21), .inl (dA 0, 16, .inl u.2.1)), ((a 25), .inl (dA 0, 5, .inl u.2.2))])) A) ([.ref m0, .int (nI kk), .int (nI ww)] : List Value).toArray s 0 0 A) (F0 m 20 ls []) := by
        intro fuel
        induction fuel with
        | zero =>
          intro f v1 lk1 cm1 hf0 hf hv hv1 H locs ls hP hD hS hl
          exact absurd hf (by omega)
        | succ fuel ih_20 =>
          intro f v1 lk1 cm1 hf0 hf hv hv1 H locs ls hP hD hS hl
          refine lv_iload_n hx hb dX5_edge_20 rfl (lv_at hl 3 rfl) ?_
          refine lv_bipush (v := 10) hx hb dX5_edge_21 (by decide) ?_
          refine lv_icmp_ge (tgt := 74) hx hb dX5_edge_23 (by decide) (fun c_23 => ?_) (fun c_23 => ?_)
          · skip
            have n_c_23 : 10 ≤ f := (nI_leI (a := 10) (b := f) (by omega) (by omega)).mp c_23
            refine lv_bipush (v := (-4)) hx hb dX5_edge_74 (by decide) ?_
            refine rt_i hx hb hr hlocks dX5_edge_76 hP hD hS (Nat.le_of_ble_eq_true rfl) (Nat.le_of_ble_eq_true rfl) (v1, lk1, cm1) [0, 1, 2, 3, 4, 5, 6, 7, 8, 9, 10, 11] rfl (by decide) ?_
            exact ⟨by rw [sp_edgeq, if_pos c_5, if_pos c_13, e_kk, e_ww, ← hv, sp_fst, if_pos (by omega)], hv1⟩
          · skip
            have n_c_23 : ¬ 10 ≤ f := fun h9 => c_23 ((nI_leI (a := 10) (b := f) (by omega) (by omega)).mpr h9)
            refine lv_aload_n hx hb dX5_edge_26 rfl (lv_at hl 0 rfl) ?_
            refine lv_iconst (v := 2) hx hb dX5_edge_27 (by decide) ?_
            refine lv_iload_n hx hb dX5_edge_28 rfl (lv_at hl 3 rfl) ?_
            refine lv_aload_n hx hb dX5_edge_29 rfl (lv_at hl 0 rfl) ?_
            refine va_get (D := (dC, dI)) (ci := 4) (v := .ref (a 6)) (C := RX5) (T := TX5) (N := 41) hx hb hts in_X5 hown hK.1 hP 0 rfl rfl 6 (by decide) (hts _ q1098) (fun _ h9 => h9) rfl dX5_edge_30 ?_
            refine lv_iload_n hx hb dX5_edge_33 rfl (lv_at hl 1 rfl) ?_
            refine va_iald hx hb hK.1 hP 7 0 rfl rfl (vp_in_nI (by omega) (by omega)) dX5_edge_34 ?_
            refine lv_eqi (y := (dri kk)) (congrArg dri (nI_clamp (by omega))) ?_
            refine lv_aload_n hx hb dX5_edge_35 rfl (lv_at hl 0 rfl) ?_
            refine va_get (D := (dC, dI)) (ci := 4) (v := .ref (a 7)) (C := RX5) (T := TX5) (N := 41) hx hb hts in_X5 hown hK.1 hP 0 rfl rfl 7 (by decide) (hts _ q1099) (fun _ h9 => h9) rfl dX5_edge_36 ?_
            refine lv_iload_n hx hb dX5_edge_39 rfl (lv_at hl 1 rfl) ?_
            refine va_iald hx hb hK.1 hP 8 0 rfl rfl (vp_in_nI (by omega) (by omega)) dX5_edge_40 ?_
            refine lv_eqi (y := (wak kk)) (congrArg wak (nI_clamp (by omega))) ?_
            refine lv_aload_n hx hb dX5_edge_41 rfl (lv_at hl 0 rfl) ?_
            refine va_get (D := (dC, dI)) (ci := 4) (v := .ref (a 0)) (C := RX5) (T := TX5) (N := 41) hx hb hts in_X5 hown hK.1 hP 0 rfl rfl 0 (by decide) (hts _ q1092) (fun _ h9 => h9) rfl dX5_edge_42 ?_
            refine lv_iconst (v := 3) hx hb dX5_edge_45 (by decide) ?_
            refine va_iald hx hb hK.1 hP 1 0 rfl rfl (vin (by decide)) dX5_edge_46 ?_
            refine lv_eqi (y := lw) rfl ?_
            refine rw_i (wr := [((a 4), .inl (dA 0, 6, .inl knd)), ((a 5), .inl (dA 0, 6, .inl fig)), ((a 6), .inl (dA 0, 6, .inl dri)), ((a 7), .inl (dA 0, 6, .inl wak))]) (rw_V (rest := []) (As := [.int 2, .int (nI f), .int (dri kk), .int (wak kk), .int lw]) (wc := [(m0, .inr (4, moF a v1)), ((a 0), .inl (dA 0, 4, .inl (mn4 wn kn pn lw))), ((a 1), .inl (dA 0, 5, .inl att)), ((a 2), .inl (dA 0, 5, .inl wal)), ((a 3), .inl (dA 0, 5, .inl fin)), ((a 8), .inl (dA 0, 8, .inl pla)), ((a 21), .inl (dA 0, 16, .inl lk1)), ((a 25), .inl (dA 0, 5, .inl cm1))]) ⟨hx, hb, hml, hown, hts⟩ (met_X5_dayOf_2f _ m0 a v1 wn kn pn lw att wal fin pla lk1 cm1 2 (nI f) (dri kk) (wak kk) lw (by assumption) (by assumption) (by assumption) (hwa kk hkk)) (cwV 5 hts (lw_V q1283 q1285 qs27 q46 q1286) rfl rfl rfl hdV_X5_dayOf_2 ⟨Nat.le_of_ble_eq_true rfl, Nat.le_of_ble_eq_true rfl⟩) hK hP hD [0, 1, 2, 3, 4, 9, 10, 11] rfl (by decide) (va_recv hK.1 hP (ci := 4) (q0 := 0) rfl rfl) rfl hl.1 rfl (Nat.le_of_ble_eq_true rfl) dX5_edge_47 ⟨Nat.le_of_ble_eq_true rfl, Nat.le_of_ble_eq_true rfl⟩) hP hD hS hA [0, 1, 2, 3, 4, 9, 10, 11] [5, 6, 7, 8] rfl rfl (by decide) (by decide) (fun r_47 u_47 H locs h_47 hz_47 hP hD hS => ?_)
            obtain ⟨v2_47, lkd2_47, cam2_47⟩ := u_47
            have hP : va_P (dC, dI) vwCl [((a 4), .inl (dA 0, 6, .inl knd)), ((a 5), .inl (dA 0, 6, .inl fig)), ((a 6), .inl (dA 0, 6, .inl dri)), ((a 7), .inl (dA 0, 6, .inl wak)), (m0, .inr (4, moF a v2_47)), ((a 0), .inl (dA 0, 4, .inl (mn4 wn kn pn lw))), ((a 1), .inl (dA 0, 5, .inl att)), ((a 2), .inl (dA 0, 5, .inl wal)), ((a 3), .inl (dA 0, 5, .inl fin)), ((a 8), .inl (dA 0, 8, .inl pla)), ((a 21), .inl (dA 0, 16, .inl lkd2_47)), ((a 25), .inl (dA 0, 5, .inl cam2_47))] H := hP
            have hD : va_D A [((a 4), .inl (dA 0, 6, .inl knd)), ((a 5), .inl (dA 0, 6, .inl fig)), ((a 6), .inl (dA 0, 6, .inl dri)), ((a 7), .inl (dA 0, 6, .inl wak)), (m0, .inr (4, moF a v2_47)), ((a 0), .inl (dA 0, 4, .inl (mn4 wn kn pn lw))), ((a 1), .inl (dA 0, 5, .inl att)), ((a 2), .inl (dA 0, 5, .inl wal)), ((a 3), .inl (dA 0, 5, .inl fin)), ((a 8), .inl (dA 0, 8, .inl pla)), ((a 21), .inl (dA 0, 16, .inl lkd2_47)), ((a 25), .inl (dA 0, 5, .inl cam2_47))] := hD
            have f_47 : dyOK (sp_any 2 (nI f) (dri kk) lw (wak kk) pn pla att wal fin wn) wn v1 v2_47 lkd2_47 cam2_47 := h_47.2
            obtain rfl : r_47 = sp_cost (sp_any 2 (nI f) (dri kk) lw (wak kk) pn pla att wal fin wn) := h_47.1
            refine lv_pop hx hb dX5_edge_50 rfl ?_
            obtain ⟨d1, d2, d3, d4, d5, d6, d7, d8, d9⟩ := f_47
            refine lv_aload_n hx hb dX5_edge_51 rfl (lv_at hl 0 rfl) ?_
            refine va_get (D := (dC, dI)) (ci := 4) (v := .ref (a 25)) (C := RX5) (T := TX5) (N := 41) hx hb hts in_X5 hown hK.1 hP 4 rfl rfl 25 (by decide) (hts _ q1117) (fun _ h9 => h9) rfl dX5_edge_52 ?_
            refine lv_iload_n hx hb dX5_edge_55 rfl (lv_at hl 2 rfl) ?_
            refine va_iald hx hb hK.1 hP 11 0 rfl rfl (vp_in_nI (by omega) (by omega)) dX5_edge_56 ?_
            refine lv_eqi (y := (cam2_47 ww)) (congrArg cam2_47 (nI_clamp (by omega))) ?_
            refine lv_aload_n hx hb dX5_edge_57 rfl (lv_at hl 0 rfl) ?_
            refine va_get (D := (dC, dI)) (ci := 4) (v := .ref (a 1)) (C := RX5) (T := TX5) (N := 41) hx hb hts in_X5 hown hK.1 hP 4 rfl rfl 1 (by decide) (hts _ q1093) (fun _ h9 => h9) rfl dX5_edge_58 ?_
            refine lv_iload_n hx hb dX5_edge_61 rfl (lv_at hl 2 rfl) ?_
            refine va_iald hx hb hK.1 hP 6 0 rfl rfl (vp_in_nI (by omega) (by omega)) dX5_edge_62 ?_
            refine lv_eqi (y := (att ww)) (congrArg att (nI_clamp (by omega))) ?_
            refine lv_icmp_gt (tgt := 68) hx hb dX5_edge_63 (by decide) (fun c_63 => ?_) (fun c_63 => ?_)
            · skip
              refine lv_iinc (v := (nI (f + 1))) (lv' := [(3, .int (nI (f + 1))), (0, .ref m0), (1, .int (nI kk)), (2, .int (nI ww))]) hx hb dX5_edge_68 hl (k := 3) rfl (nI_1 f) (by decide) rfl (fun ls hl => ?_)
              refine lv_goto (tgt := 20) hx hb dX5_edge_71 (by decide) ?_
              exact ih_20 (f + 1) v2_47 lkd2_47 cam2_47 (by omega) (by omega) (by rw [← hv, sp_fst, if_neg (by omega), if_neg (by rw [decide_eq_true_eq, ← d8 ww hww]; exact Int32.not_le.mpr c_63)]) (vk_tr d1 hv1) H locs ls (hP.sub [4, 5, 6, 7, 8, 0, 1, 2, 3, 9, 10, 11] rfl) (hD.sub [4, 5, 6, 7, 8, 0, 1, 2, 3, 9, 10, 11] (by decide) rfl) hS (lv_sub hl [1, 2, 3, 0] rfl)
            · skip
              refine lv_iload_n hx hb dX5_edge_66 rfl (lv_at hl 3 rfl) ?_
              refine rt_i hx hb hr hlocks dX5_edge_67 hP hD hS (Nat.le_of_ble_eq_true rfl) (Nat.le_of_ble_eq_true rfl) (v2_47, lkd2_47, cam2_47) [4, 5, 6, 7, 8, 0, 1, 2, 3, 9, 10, 11] rfl (by decide) ?_
              exact ⟨by rw [sp_edgeq, if_pos c_5, if_pos c_13, e_kk, e_ww, ← hv, sp_fst, if_neg (by omega), if_pos (by rw [decide_eq_true_eq, ← d8 ww hww]; exact Int32.not_lt.mp c_63)], vk_tr d1 hv1⟩
      exact K_20 11 0 v lkd cam (by omega) (by omega) rfl (vk_rf v) H locs ls hP hD hS (lv_sub hl [1, 2, 3, 0] rfl)
    · skip
      have c_13 := bI_eq0 (P := 0 ≤ w ∧ w ≤ nI wn - 1) rfl c_13
      refine lv_iconst (v := (-1)) hx hb dX5_edge_16 (by decide) ?_
      refine rt_i hx hb hr hlocks dX5_edge_17 hP hD hS (Nat.le_of_ble_eq_true rfl) (Nat.le_of_ble_eq_true rfl) (v, lkd, cam) [0, 1, 2, 3, 4, 5, 6, 7, 8, 9, 10, 11] rfl (by decide) ?_
      exact ⟨by rw [sp_edgeq]; first | rw [if_neg c_5] | rw [if_pos c_5, if_neg c_13], vk_rf v⟩
theorem hdS_X5_pays_2 : yX5_pays_2.cls ≠ "java/lang/invoke/MethodHandle" ∧ yX5_pays_2.cls ≠ "java/lang/invoke/VarHandle" ∧ (parseMethodDescriptor yX5_pays_2.desc).map (fun d => d.parameters.length) = some 1 := by decide +kernel
theorem hdV_X5_pays_2 : yX5_pays_2.cls = RX5 ∧ yX5_pays_2.cls ≠ "java/lang/invoke/MethodHandle" ∧ yX5_pays_2.cls ≠ "java/lang/invoke/VarHandle" ∧ (parseMethodDescriptor yX5_pays_2.desc).map (fun d => d.parameters.length) = some 1 := ⟨rfl, hdS_X5_pays_2⟩
set_option maxHeartbeats 4000000 in
set_option maxRecDepth 100000 in
theorem met_X5_pays_2 {l : Launch} {dC : Nat → ClassId} {dI : Nat → Nat → Nat} {dA : Nat → ClassId} (sz : Nat) (m0 : Nat) (a : Nat → Nat) (v : Nat → Int32) (wn : Nat) (kn : Nat) (pn : Nat) (lw : Int32) (att : Nat → Int32) (wal : Nat → Int32) (fin : Nat → Int32) (knd : Nat → Int32) (fig : Nat → Int32) (dri : Nat → Int32) (wak : Nat → Int32) (pla : Nat → Int32) (lkd : Nat → Int32) (cam : Nat → Int32) (k : Int32) (hw5 : wn ≤ 5) (hk6 : kn ≤ 6) (hp8 : pn ≤ 8) (htn : ∀ w, w < wn → (0 ≤ att w ∧ att w ≤ 719) ∧ (0 ≤ wal w ∧ wal w ≤ 59)) (hwa : ∀ k, k < kn → 0 ≤ wak k ∧ wak k ≤ 719) : Met l yX5_pays_2 (ws_ yX5_pays_2 cX5_pays_2 2 (some .int)) ({ frames := 11, cells := 0, slots := 0, locals := 900 } : Room) (RwP dC dI dA [.ref m0, .int k] [(m0, .inr (4, moF a v)), ((a 0), .inl (dA 0, 4, .inl (mn4 wn kn pn lw))), ((a 1), .inl (dA 0, 5, .inl att)), ((a 2), .inl (dA 0, 5, .inl wal)), ((a 3), .inl (dA 0, 5, .inl fin)), ((a 4), .inl (dA 0, 6, .inl knd)), ((a 5), .inl (dA 0, 6, .inl fig)), ((a 6), .inl (dA 0, 6, .inl dri)), ((a 7), .inl (dA 0, 6, .inl wak)), ((a 8), .inl (dA 0, 8, .inl pla)), ((a 21), .inl (dA 0, 16, .inl lkd)), ((a 25), .inl (dA 0, 5, .inl cam))] sz) (va_Qi (fun (r : Int32) (u : (Nat → Int32) × (Nat → Int32) × (Nat → Int32)) => r = sp_paysq kn (fun kk => sp_cost (sp_any 0 (fig kk) (dri kk) lw (wak kk) pn pla att wal fin wn)) (fun kk => sp_cost ((sp_lk knd fig dri wak lw pn pla att wal fin wn) kk)) k ∧ sp_vk u.1 v) (RwB dC dI (va_A [(m0, .inr (4, moF a v)), ((a 0), .inl (dA 0, 4, .inl (mn4 wn kn pn lw))), ((a 1), .inl (dA 0, 5, .inl att)), ((a 2), .inl (dA 0, 5, .inl wal)), ((a 3), .inl (dA 0, 5, .inl fin)), ((a 4), .inl (dA 0, 6, .inl knd)), ((a 5), .inl (dA 0, 6, .inl fig)), ((a 6), .inl (dA 0, 6, .inl dri)), ((a 7), .inl (dA 0, 6, .inl wak)), ((a 8), .inl (dA 0, 8, .inl pla)), ((a 21), .inl (dA 0, 16, .inl lkd)), ((a 25), .inl (dA 0, 5, .inl cam))] sz) (fun (u : (Nat → Int32) × (Nat → Int32) × (Nat → Int32)) => [(m0, .inr (4, moF a u.1)), ((a 0), .inl (dA 0, 4, .inl (mn4 wn kn pn lw))), ((a 1), .inl (dA 0, 5, .inl att)), ((a 2), .inl (dA 0, 5, .inl wal)), ((a 3), .inl (dA 0, 5, .inl fin)), ((a 4), .inl (dA 0, 6, .inl knd)), ((a 5), .inl (dA 0, 6, .inl fig)), ((a 6), .inl (dA 0, 6, .inl dri)), ((a 7), .inl (dA 0, 6, .inl wak)), ((a 8), .inl (dA 0, 8, .inl pla)), ((a 21), .inl (dA 0, 16, .inl u.2.1)), ((a 25), .inl (dA 0, 5, .inl u.2.2))])) (va_A [(m0, .inr (4, moF a v)), ((a 0), .inl (dA 0, 4, .inl (mn4 wn kn pn lw))), ((a 1), .inl (dA 0, 5, .inl att)), ((a 2), .inl (dA 0, 5, .inl wal)), ((a 3), .inl (dA 0, 5, .inl fin)), ((a 4), .inl (dA 0, 6, .inl knd)), ((a 5), .inl (dA 0, 6, .inl fig)), ((a 6), .inl (dA 0, 6, .inl dri)), ((a 7), .inl (dA 0, 6, .inl wak)), ((a 8), .inl (dA 0, 8, .inl pla)), ((a 21), .inl (dA 0, 16, .inl lkd)), ((a 25), .inl (dA 0, 5, .inl cam))] sz)) 0 0 (va_A [(m0, .inr (4, moF a v)), ((a 0), .inl (dA 0, 4, .inl (mn4 wn kn pn lw))), ((a 1), .inl (dA 0, 5, .inl att)), ((a 2), .inl (dA 0, 5, .inl wal)), ((a 3), .inl (dA 0, 5, .inl fin)), ((a 4), .inl (dA 0, 6, .inl knd)), ((a 5), .inl (dA 0, 6, .inl fig)), ((a 6), .inl (dA 0, 6, .inl dri)), ((a 7), .inl (dA 0, 6, .inl wak)), ((a 8), .inl (dA 0, 8, .inl pla)), ((a 21), .inl (dA 0, 16, .inl lkd)), ((a 25), .inl (dA 0, 5, .inl cam))] sz) := by
  refine ofRw (cc := cX5_pays_2) (maxL := 2) (ret := (some .int)) (Qf := fun A => va_Qi (fun (r : Int32) (u : (Nat → Int32) × (Nat → Int32) × (Nat → Int32)) => r = sp_paysq kn (fun kk => sp_cost (sp_any 0 (fig kk) (dri kk) lw (wak kk) pn pla att wal fin wn)) (fun kk => sp_cost ((sp_lk knd fig dri wak lw pn pla att wal fin wn) kk)) k ∧ sp_vk u.1 v) (RwB dC dI A (fun (u : (Nat → Int32) × (Nat → Int32) × (Nat → Int32)) => [(m0, .inr (4, moF a u.1)), ((a 0), .inl (dA 0, 4, .inl (mn4 wn kn pn lw))), ((a 1), .inl (dA 0, 5, .inl att)), ((a 2), .inl (dA 0, 5, .inl wal)), ((a 3), .inl (dA 0, 5, .inl fin)), ((a 4), .inl (dA 0, 6, .inl knd)), ((a 5), .inl (dA 0, 6, .inl fig)), ((a 6), .inl (dA 0, 6, .inl dri)), ((a 7), .inl (dA 0, 6, .inl wak)), ((a 8), .inl (dA 0, 8, .inl pla)), ((a 21), .inl (dA 0, 16, .inl u.2.1)), ((a 25), .inl (dA 0, 5, .inl u.2.2))])) A) (by decide) rfl (fun w h => List.mem_cons_of_mem _ h) (Nat.le_of_ble_eq_true rfl) ?_
  intro p e s m below meth c ls A hx hb hr hlocks hml hts hown hP hK hD hA hnm hsz hl
  have hS : va_S A s.heap s.heap [] := va_S.rf
  obtain ⟨H, hHe⟩ : ∃ H, H = s.heap := ⟨_, rfl⟩
  obtain ⟨locs, hlo⟩ : ∃ z : List Loc, z = [] := ⟨_, rfl⟩
  have hS : va_S A s.heap H locs := by rw [hHe, hlo]; exact hS
  suffices K0 : W p l e _ s m _ below meth c H locs 0 0 _ _ by rw [hHe, hlo] at K0; exact K0
  rw [← hHe] at hP
  have hown : s.vm.findClass RX5 = some m.cls := hown
  have hl : lv_has ls 2 [(0, .ref m0), (1, .int k)] := hl
  refine lv_aload_n hx hb dX5_pays_2_0 rfl (lv_at hl 0 rfl) ?_
  refine lv_iload_n hx hb dX5_pays_2_1 rfl (lv_at hl 1 rfl) ?_
  refine ro_V (rest := []) (As := [.int k]) (wc := [(m0, .inr (4, moF a v)), ((a 0), .inl (dA 0, 4, .inl (mn4 wn kn pn lw)))]) ⟨hx, hb, hml, hown, hts⟩ (met_X5_isLooker m0 a v wn kn pn lw k) (cwV 1 hts (lw_V q1256 q1258 qs25 q46 q1259) rfl rfl rfl hdV_X5_isLooker ⟨Nat.le_of_ble_eq_true rfl, Nat.le_of_ble_eq_true rfl⟩) hK hP [0, 1] rfl (va_recv hK.1 hP (ci := 4) (q0 := 0) rfl rfl) rfl hl.1 rfl (Nat.le_of_ble_eq_true rfl) dX5_pays_2_2 ⟨Nat.le_of_ble_eq_true rfl, Nat.le_of_ble_eq_true rfl⟩ (fun r_2 h_2 => ?_)
  obtain rfl : r_2 = bI (0 ≤ k ∧ k ≤ nI kn - 1) := h_2
  refine lv_if_eq (tgt := 46) hx hb dX5_pays_2_5 (by decide) (fun c_5 => ?_) (fun c_5 => ?_)
  · skip
    have c_5 := bI_eq0 (P := 0 ≤ k ∧ k ≤ nI kn - 1) rfl c_5
    refine lv_ldc (v := (-1000000001)) hx hb hown (hts _ q1267) dX5_pays_2_46 ?_
    refine rt_i hx hb hr hlocks dX5_pays_2_48 hP hD hS (Nat.le_of_ble_eq_true rfl) (Nat.le_of_ble_eq_true rfl) (v, lkd, cam) [0, 1, 2, 3, 4, 5, 6, 7, 8, 9, 10, 11] rfl (by decide) ?_
    exact ⟨by rw [sp_paysq, if_neg c_5], vk_rf v⟩
  · skip
    have c_5 := bI_ne0 (P := 0 ≤ k ∧ k ≤ nI kn - 1) rfl c_5
    obtain ⟨kk, hkk, rfl⟩ := ix_nI (by omega) c_5
    have e_kk : (nI kk).toNatClampNeg = kk := nI_clamp (by omega)
    refine lv_aload_n hx hb dX5_pays_2_8 rfl (lv_at hl 0 rfl) ?_
    refine lv_iconst (v := 0) hx hb dX5_pays_2_9 (by decide) ?_
    refine lv_aload_n hx hb dX5_pays_2_10 rfl (lv_at hl 0 rfl) ?_
    refine va_get (D := (dC, dI)) (ci := 4) (v := .ref (a 5)) (C := RX5) (T := TX5) (N := 41) hx hb hts in_X5 hown hK.1 hP 0 rfl rfl 5 (by decide) (hts _ q1097) (fun _ h9 => h9) rfl dX5_pays_2_11 ?_
    refine lv_iload_n hx hb dX5_pays_2_14 rfl (lv_at hl 1 rfl) ?_
    refine va_iald hx hb hK.1 hP 6 0 rfl rfl (vp_in_nI (by omega) (by omega)) dX5_pays_2_15 ?_
    refine lv_eqi (y := (fig kk)) (congrArg fig (nI_clamp (by omega))) ?_
    refine lv_aload_n hx hb dX5_pays_2_16 rfl (lv_at hl 0 rfl) ?_
    refine va_get (D := (dC, dI)) (ci := 4) (v := .ref (a 6)) (C := RX5) (T := TX5) (N := 41) hx hb hts in_X5 hown hK.1 hP 0 rfl rfl 6 (by decide) (hts _ q1098) (fun _ h9 => h9) rfl dX5_pays_2_17 ?_
    refine lv_iload_n hx hb dX5_pays_2_20 rfl (lv_at hl 1 rfl) ?_
    refine va_iald hx hb hK.1 hP 7 0 rfl rfl (vp_in_nI (by omega) (by omega)) dX5_pays_2_21 ?_
    refine lv_eqi (y := (dri kk)) (congrArg dri (nI_clamp (by omega))) ?_
    refine lv_aload_n hx hb dX5_pays_2_22 rfl (lv_at hl 0 rfl) ?_
    refine va_get (D := (dC, dI)) (ci := 4) (v := .ref (a 7)) (C := RX5) (T := TX5) (N := 41) hx hb hts in_X5 hown hK.1 hP 0 rfl rfl 7 (by decide) (hts _ q1099) (fun _ h9 => h9) rfl dX5_pays_2_23 ?_
    refine lv_iload_n hx hb dX5_pays_2_26 rfl (lv_at hl 1 rfl) ?_
    refine va_iald hx hb hK.1 hP 8 0 rfl rfl (vp_in_nI (by omega) (by omega)) dX5_pays_2_27 ?_
    refine lv_eqi (y := (wak kk)) (congrArg wak (nI_clamp (by omega))) ?_
    refine lv_aload_n hx hb dX5_pays_2_28 rfl (lv_at hl 0 rfl) ?_
    refine va_get (D := (dC, dI)) (ci := 4) (v := .ref (a 0)) (C := RX5) (T := TX5) (N := 41) hx hb hts in_X5 hown hK.1 hP 0 rfl rfl 0 (by decide) (hts _ q1092) (fun _ h9 => h9) rfl dX5_pays_2_29 ?_
    refine lv_iconst (v := 3) hx hb dX5_pays_2_32 (by decide) ?_
    refine va_iald hx hb hK.1 hP 1 0 rfl rfl (vin (by decide)) dX5_pays_2_33 ?_
    refine lv_eqi (y := lw) rfl ?_
    refine rw_i (wr := [((a 4), .inl (dA 0, 6, .inl knd)), ((a 5), .inl (dA 0, 6, .inl fig)), ((a 6), .inl (dA 0, 6, .inl dri)), ((a 7), .inl (dA 0, 6, .inl wak))]) (rw_V (rest := []) (As := [.int 0, .int (fig kk), .int (dri kk), .int (wak kk), .int lw]) (wc := [(m0, .inr (4, moF a v)), ((a 0), .inl (dA 0, 4, .inl (mn4 wn kn pn lw))), ((a 1), .inl (dA 0, 5, .inl att)), ((a 2), .inl (dA 0, 5, .inl wal)), ((a 3), .inl (dA 0, 5, .inl fin)), ((a 8), .inl (dA 0, 8, .inl pla)), ((a 21), .inl (dA 0, 16, .inl lkd)), ((a 25), .inl (dA 0, 5, .inl cam))]) ⟨hx, hb, hml, hown, hts⟩ (met_X5_dayOf_2f _ m0 a v wn kn pn lw att wal fin pla lkd cam 0 (fig kk) (dri kk) (wak kk) lw (by assumption) (by assumption) (by assumption) (hwa kk hkk)) (cwV 5 hts (lw_V q1283 q1285 qs27 q46 q1286) rfl rfl rfl hdV_X5_dayOf_2 ⟨Nat.le_of_ble_eq_true rfl, Nat.le_of_ble_eq_true rfl⟩) hK hP hD [0, 1, 2, 3, 4, 9, 10, 11] rfl (by decide) (va_recv hK.1 hP (ci := 4) (q0 := 0) rfl rfl) rfl hl.1 rfl (Nat.le_of_ble_eq_true rfl) dX5_pays_2_34 ⟨Nat.le_of_ble_eq_true rfl, Nat.le_of_ble_eq_true rfl⟩) hP hD hS hA [0, 1, 2, 3, 4, 9, 10, 11] [5, 6, 7, 8] rfl rfl (by decide) (by decide) (fun r_34 u_34 H locs h_34 hz_34 hP hD hS => ?_)
    obtain ⟨v2_34, lkd2_34, cam2_34⟩ := u_34
    have hP : va_P (dC, dI) vwCl [((a 4), .inl (dA 0, 6, .inl knd)), ((a 5), .inl (dA 0, 6, .inl fig)), ((a 6), .inl (dA 0, 6, .inl dri)), ((a 7), .inl (dA 0, 6, .inl wak)), (m0, .inr (4, moF a v2_34)), ((a 0), .inl (dA 0, 4, .inl (mn4 wn kn pn lw))), ((a 1), .inl (dA 0, 5, .inl att)), ((a 2), .inl (dA 0, 5, .inl wal)), ((a 3), .inl (dA 0, 5, .inl fin)), ((a 8), .inl (dA 0, 8, .inl pla)), ((a 21), .inl (dA 0, 16, .inl lkd2_34)), ((a 25), .inl (dA 0, 5, .inl cam2_34))] H := hP
    have hD : va_D A [((a 4), .inl (dA 0, 6, .inl knd)), ((a 5), .inl (dA 0, 6, .inl fig)), ((a 6), .inl (dA 0, 6, .inl dri)), ((a 7), .inl (dA 0, 6, .inl wak)), (m0, .inr (4, moF a v2_34)), ((a 0), .inl (dA 0, 4, .inl (mn4 wn kn pn lw))), ((a 1), .inl (dA 0, 5, .inl att)), ((a 2), .inl (dA 0, 5, .inl wal)), ((a 3), .inl (dA 0, 5, .inl fin)), ((a 8), .inl (dA 0, 8, .inl pla)), ((a 21), .inl (dA 0, 16, .inl lkd2_34)), ((a 25), .inl (dA 0, 5, .inl cam2_34))] := hD
    have f_34 : dyOK (sp_any 0 (fig kk) (dri kk) lw (wak kk) pn pla att wal fin wn) wn v v2_34 lkd2_34 cam2_34 := h_34.2
    obtain rfl : r_34 = sp_cost (sp_any 0 (fig kk) (dri kk) lw (wak kk) pn pla att wal fin wn) := h_34.1
    refine lv_aload_n hx hb dX5_pays_2_37 rfl (lv_at hl 0 rfl) ?_
    refine lv_iload_n hx hb dX5_pays_2_38 rfl (lv_at hl 1 rfl) ?_
    refine rw_i (wr := []) (rw_V (rest := [.int (sp_cost (sp_any 0 (fig kk) (dri kk) lw (wak kk) pn pla att wal fin wn))]) (As := [.int (nI kk)]) (wc := [(m0, .inr (4, moF a v2_34)), ((a 0), .inl (dA 0, 4, .inl (mn4 wn kn pn lw))), ((a 1), .inl (dA 0, 5, .inl att)), ((a 2), .inl (dA 0, 5, .inl wal)), ((a 3), .inl (dA 0, 5, .inl fin)), ((a 4), .inl (dA 0, 6, .inl knd)), ((a 5), .inl (dA 0, 6, .inl fig)), ((a 6), .inl (dA 0, 6, .inl dri)), ((a 7), .inl (dA 0, 6, .inl wak)), ((a 8), .inl (dA 0, 8, .inl pla)), ((a 21), .inl (dA 0, 16, .inl lkd2_34)), ((a 25), .inl (dA 0, 5, .inl cam2_34))]) ⟨hx, hb, hml, hown, hts⟩ (met_X5_dayOf _ m0 a v2_34 wn kn pn lw att wal fin knd fig dri wak pla lkd2_34 cam2_34 kk (by assumption) (by assumption) (by assumption) (by assumption) (by assumption) (by assumption)) (cwV 1 hts (lw_V q1279 q1281 qs26 q46 q1282) rfl rfl rfl hdV_X5_dayOf ⟨Nat.le_of_ble_eq_true rfl, Nat.le_of_ble_eq_true rfl⟩) hK hP hD [4, 5, 6, 7, 8, 0, 1, 2, 3, 9, 10, 11] rfl (by decide) (va_recv hK.1 hP (ci := 4) (q0 := 4) rfl rfl) rfl hl.1 rfl (Nat.le_of_ble_eq_true rfl) dX5_pays_2_39 ⟨Nat.le_of_ble_eq_true rfl, Nat.le_of_ble_eq_true rfl⟩) hP hD hS hA [4, 5, 6, 7, 8, 0, 1, 2, 3, 9, 10, 11] [] rfl rfl (by decide) (by decide) (fun r_39 u_39 H locs h_39 hz_39 hP hD hS => ?_)
    obtain ⟨v2_39, lkd2_39, cam2_39⟩ := u_39
    have hP : va_P (dC, dI) vwCl [(m0, .inr (4, moF a v2_39)), ((a 0), .inl (dA 0, 4, .inl (mn4 wn kn pn lw))), ((a 1), .inl (dA 0, 5, .inl att)), ((a 2), .inl (dA 0, 5, .inl wal)), ((a 3), .inl (dA 0, 5, .inl fin)), ((a 4), .inl (dA 0, 6, .inl knd)), ((a 5), .inl (dA 0, 6, .inl fig)), ((a 6), .inl (dA 0, 6, .inl dri)), ((a 7), .inl (dA 0, 6, .inl wak)), ((a 8), .inl (dA 0, 8, .inl pla)), ((a 21), .inl (dA 0, 16, .inl lkd2_39)), ((a 25), .inl (dA 0, 5, .inl cam2_39))] H := hP
    have hD : va_D A [(m0, .inr (4, moF a v2_39)), ((a 0), .inl (dA 0, 4, .inl (mn4 wn kn pn lw))), ((a 1), .inl (dA 0, 5, .inl att)), ((a 2), .inl (dA 0, 5, .inl wal)), ((a 3), .inl (dA 0, 5, .inl fin)), ((a 4), .inl (dA 0, 6, .inl knd)), ((a 5), .inl (dA 0, 6, .inl fig)), ((a 6), .inl (dA 0, 6, .inl dri)), ((a 7), .inl (dA 0, 6, .inl wak)), ((a 8), .inl (dA 0, 8, .inl pla)), ((a 21), .inl (dA 0, 16, .inl lkd2_39)), ((a 25), .inl (dA 0, 5, .inl cam2_39))] := hD
    have f_39 : dyOK ((sp_lk knd fig dri wak lw pn pla att wal fin wn) kk) wn v2_34 v2_39 lkd2_39 cam2_39 := h_39.2
    obtain rfl : r_39 = sp_cost ((sp_lk knd fig dri wak lw pn pla att wal fin wn) kk) := h_39.1
    refine lv_isub hx hb dX5_pays_2_42 ?_
    refine lv_goto (tgt := 48) hx hb dX5_pays_2_43 (by decide) ?_
    refine rt_i hx hb hr hlocks dX5_pays_2_48 hP hD hS (Nat.le_of_ble_eq_true rfl) (Nat.le_of_ble_eq_true rfl) (v2_39, lkd2_39, cam2_39) [0, 1, 2, 3, 4, 5, 6, 7, 8, 9, 10, 11] rfl (by decide) ?_
    exact ⟨by rw [sp_paysq, if_pos c_5, e_kk], vk_tr f_39.1 f_34.1⟩
theorem hdS_X5_byLaw : yX5_byLaw.cls ≠ "java/lang/invoke/MethodHandle" ∧ yX5_byLaw.cls ≠ "java/lang/invoke/VarHandle" ∧ (parseMethodDescriptor yX5_byLaw.desc).map (fun d => d.parameters.length) = some 2 := by decide +kernel
theorem hdV_X5_byLaw : yX5_byLaw.cls = RX5 ∧ yX5_byLaw.cls ≠ "java/lang/invoke/MethodHandle" ∧ yX5_byLaw.cls ≠ "java/lang/invoke/VarHandle" ∧ (parseMethodDescriptor yX5_byLaw.desc).map (fun d => d.parameters.length) = some 2 := ⟨rfl, hdS_X5_byLaw⟩
set_option maxHeartbeats 4000000 in
set_option maxRecDepth 100000 in
theorem met_X5_byLaw {l : Launch} {dC : Nat → ClassId} {dI : Nat → Nat → Nat} {dA : Nat → ClassId} (sz : Nat) (m0 : Nat) (a : Nat → Nat) (v : Nat → Int32) (wn : Nat) (kn : Nat) (pn : Nat) (lw : Int32) (att : Nat → Int32) (wal : Nat → Int32) (fin : Nat → Int32) (knd : Nat → Int32) (fig : Nat → Int32) (dri : Nat → Int32) (wak : Nat → Int32) (pla : Nat → Int32) (lkd : Nat → Int32) (cam : Nat → Int32) (k : Int32) (n : Int32) (hw5 : wn ≤ 5) (hk6 : kn ≤ 6) (hp8 : pn ≤ 8) (htn : ∀ w, w < wn → (0 ≤ att w ∧ att w ≤ 719) ∧ (0 ≤ wal w ∧ wal w ≤ 59)) (hwa : ∀ k, k < kn → 0 ≤ wak k ∧ wak k ≤ 719) : Met l yX5_byLaw (ws_ yX5_byLaw cX5_byLaw 3 (some .int)) ({ frames := 11, cells := 0, slots := 0, locals := 900 } : Room) (RwP dC dI dA [.ref m0, .int k, .int n] [(m0, .inr (4, moF a v)), ((a 0), .inl (dA 0, 4, .inl (mn4 wn kn pn lw))), ((a 1), .inl (dA 0, 5, .inl att)), ((a 2), .inl (dA 0, 5, .inl wal)), ((a 3), .inl (dA 0, 5, .inl fin)), ((a 4), .inl (dA 0, 6, .inl knd)), ((a 5), .inl (dA 0, 6, .inl fig)), ((a 6), .inl (dA 0, 6, .inl dri)), ((a 7), .inl (dA 0, 6, .inl wak)), ((a 8), .inl (dA 0, 8, .inl pla)), ((a 21), .inl (dA 0, 16, .inl lkd)), ((a 25), .inl (dA 0, 5, .inl cam))] sz) (va_Qi (fun (r : Int32) (u : (Nat → Int32) × (Nat → Int32) × (Nat → Int32)) => r = sp_bylawq kn (fun kk => sp_cost (sp_any (knd kk) (fig kk) (dri kk) n (wak kk) pn pla att wal fin wn)) k n ∧ sp_vk u.1 v) (RwB dC dI (va_A [(m0, .inr (4, moF a v)), ((a 0), .inl (dA 0, 4, .inl (mn4 wn kn pn lw))), ((a 1), .inl (dA 0, 5, .inl att)), ((a 2), .inl (dA 0, 5, .inl wal)), ((a 3), .inl (dA 0, 5, .inl fin)), ((a 4), .inl (dA 0, 6, .inl knd)), ((a 5), .inl (dA 0, 6, .inl fig)), ((a 6), .inl (dA 0, 6, .inl dri)), ((a 7), .inl (dA 0, 6, .inl wak)), ((a 8), .inl (dA 0, 8, .inl pla)), ((a 21), .inl (dA 0, 16, .inl lkd)), ((a 25), .inl (dA 0, 5, .inl cam))] sz) (fun (u : (Nat → Int32) × (Nat → Int32) × (Nat → Int32)) => [(m0, .inr (4, moF a u.1)), ((a 0), .inl (dA 0, 4, .inl (mn4 wn kn pn lw))), ((a 1), .inl (dA 0, 5, .inl att)), ((a 2), .inl (dA 0, 5, .inl wal)), ((a 3), .inl (dA 0, 5, .inl fin)), ((a 4), .inl (dA 0, 6, .inl knd)), ((a 5), .inl (dA 0, 6, .inl fig)), ((a 6), .inl (dA 0, 6, .inl dri)), ((a 7), .inl (dA 0, 6, .inl wak)), ((a 8), .inl (dA 0, 8, .inl pla)), ((a 21), .inl (dA 0, 16, .inl u.2.1)), ((a 25), .inl (dA 0, 5, .inl u.2.2))])) (va_A [(m0, .inr (4, moF a v)), ((a 0), .inl (dA 0, 4, .inl (mn4 wn kn pn lw))), ((a 1), .inl (dA 0, 5, .inl att)), ((a 2), .inl (dA 0, 5, .inl wal)), ((a 3), .inl (dA 0, 5, .inl fin)), ((a 4), .inl (dA 0, 6, .inl knd)), ((a 5), .inl (dA 0, 6, .inl fig)), ((a 6), .inl (dA 0, 6, .inl dri)), ((a 7), .inl (dA 0, 6, .inl wak)), ((a 8), .inl (dA 0, 8, .inl pla)), ((a 21), .inl (dA 0, 16, .inl lkd)), ((a 25), .inl (dA 0, 5, .inl cam))] sz)) 0 0 (va_A [(m0, .inr (4, moF a v)), ((a 0), .inl (dA 0, 4, .inl (mn4 wn kn pn lw))), ((a 1), .inl (dA 0, 5, .inl att)), ((a 2), .inl (dA 0, 5, .inl wal)), ((a 3), .inl (dA 0, 5, .inl fin)), ((a 4), .inl (dA 0, 6, .inl knd)), ((a 5), .inl (dA 0, 6, .inl fig)), ((a 6), .inl (dA 0, 6, .inl dri)), ((a 7), .inl (dA 0, 6, .inl wak)), ((a 8), .inl (dA 0, 8, .inl pla)), ((a 21), .inl (dA 0, 16, .inl lkd)), ((a 25), .inl (dA 0, 5, .inl cam))] sz) := by
  refine ofRw (cc := cX5_byLaw) (maxL := 3) (ret := (some .int)) (Qf := fun A => va_Qi (fun (r : Int32) (u : (Nat → Int32) × (Nat → Int32) × (Nat → Int32)) => r = sp_bylawq kn (fun kk => sp_cost (sp_any (knd kk) (fig kk) (dri kk) n (wak kk) pn pla att wal fin wn)) k n ∧ sp_vk u.1 v) (RwB dC dI A (fun (u : (Nat → Int32) × (Nat → Int32) × (Nat → Int32)) => [(m0, .inr (4, moF a u.1)), ((a 0), .inl (dA 0, 4, .inl (mn4 wn kn pn lw))), ((a 1), .inl (dA 0, 5, .inl att)), ((a 2), .inl (dA 0, 5, .inl wal)), ((a 3), .inl (dA 0, 5, .inl fin)), ((a 4), .inl (dA 0, 6, .inl knd)), ((a 5), .inl (dA 0, 6, .inl fig)), ((a 6), .inl (dA 0, 6, .inl dri)), ((a 7), .inl (dA 0, 6, .inl wak)), ((a 8), .inl (dA 0, 8, .inl pla)), ((a 21), .inl (dA 0, 16, .inl u.2.1)), ((a 25), .inl (dA 0, 5, .inl u.2.2))])) A) (by decide) rfl (fun w h => List.mem_cons_of_mem _ h) (Nat.le_of_ble_eq_true rfl) ?_
  intro p e s m below meth c ls A hx hb hr hlocks hml hts hown hP hK hD hA hnm hsz hl
  have hS : va_S A s.heap s.heap [] := va_S.rf
  obtain ⟨H, hHe⟩ : ∃ H, H = s.heap := ⟨_, rfl⟩
  obtain ⟨locs, hlo⟩ : ∃ z : List Loc, z = [] := ⟨_, rfl⟩
  have hS : va_S A s.heap H locs := by rw [hHe, hlo]; exact hS
  suffices K0 : W p l e _ s m _ below meth c H locs 0 0 _ _ by rw [hHe, hlo] at K0; exact K0
  rw [← hHe] at hP
  have hown : s.vm.findClass RX5 = some m.cls := hown
  have hl : lv_has ls 3 [(0, .ref m0), (1, .int k), (2, .int n)] := hl
  refine lv_aload_n hx hb dX5_byLaw_0 rfl (lv_at hl 0 rfl) ?_
  refine lv_iload_n hx hb dX5_byLaw_1 rfl (lv_at hl 1 rfl) ?_
  refine ro_V (rest := []) (As := [.int k]) (wc := [(m0, .inr (4, moF a v)), ((a 0), .inl (dA 0, 4, .inl (mn4 wn kn pn lw)))]) ⟨hx, hb, hml, hown, hts⟩ (met_X5_isLooker m0 a v wn kn pn lw k) (cwV 1 hts (lw_V q1256 q1258 qs25 q46 q1259) rfl rfl rfl hdV_X5_isLooker ⟨Nat.le_of_ble_eq_true rfl, Nat.le_of_ble_eq_true rfl⟩) hK hP [0, 1] rfl (va_recv hK.1 hP (ci := 4) (q0 := 0) rfl rfl) rfl hl.1 rfl (Nat.le_of_ble_eq_true rfl) dX5_byLaw_2 ⟨Nat.le_of_ble_eq_true rfl, Nat.le_of_ble_eq_true rfl⟩ (fun r_2 h_2 => ?_)
  obtain rfl : r_2 = bI (0 ≤ k ∧ k ≤ nI kn - 1) := h_2
  refine lv_if_eq (tgt := 49) hx hb dX5_byLaw_5 (by decide) (fun c_5 => ?_) (fun c_5 => ?_)
  · skip
    have c_5 := bI_eq0 (P := 0 ≤ k ∧ k ≤ nI kn - 1) rfl c_5
    refine lv_iconst (v := (-1)) hx hb dX5_byLaw_49 (by decide) ?_
    refine rt_i hx hb hr hlocks dX5_byLaw_50 hP hD hS (Nat.le_of_ble_eq_true rfl) (Nat.le_of_ble_eq_true rfl) (v, lkd, cam) [0, 1, 2, 3, 4, 5, 6, 7, 8, 9, 10, 11] rfl (by decide) ?_
    exact ⟨by rw [sp_bylawq, if_neg c_5], vk_rf v⟩
  · skip
    have c_5 := bI_ne0 (P := 0 ≤ k ∧ k ≤ nI kn - 1) rfl c_5
    refine lv_iload_n hx hb dX5_byLaw_8 rfl (lv_at hl 2 rfl) ?_
    refine lv_iconst (v := 0) hx hb dX5_byLaw_9 (by decide) ?_
    refine lv_iconst (v := 2) hx hb dX5_byLaw_10 (by decide) ?_
    refine ro_S (rest := []) (As := [.int n, .int 0, .int 2]) (wc := []) ⟨hx, hb, hml, hown, hts⟩ (met_X5_isIn n 0 2) (va_cwS 3 hts (lw_S q1234 q1235 q46 q1236) rfl rfl rfl hdS_X5_isIn ⟨Nat.le_of_ble_eq_true rfl, Nat.le_of_ble_eq_true rfl⟩) hK hP [] rfl rfl hl.1 rfl (Nat.le_of_ble_eq_true rfl) dX5_byLaw_11 ⟨Nat.le_of_ble_eq_true rfl, Nat.le_of_ble_eq_true rfl⟩ (fun r_11 h_11 => ?_)
    obtain rfl : r_11 = bI (0 ≤ n ∧ n ≤ 2) := h_11
    refine lv_if_eq (tgt := 49) hx hb dX5_byLaw_14 (by decide) (fun c_14 => ?_) (fun c_14 => ?_)
    · skip
      have c_14 := bI_eq0 (P := 0 ≤ n ∧ n ≤ 2) rfl c_14
      refine lv_iconst (v := (-1)) hx hb dX5_byLaw_49 (by decide) ?_
      refine rt_i hx hb hr hlocks dX5_byLaw_50 hP hD hS (Nat.le_of_ble_eq_true rfl) (Nat.le_of_ble_eq_true rfl) (v, lkd, cam) [0, 1, 2, 3, 4, 5, 6, 7, 8, 9, 10, 11] rfl (by decide) ?_
      exact ⟨by rw [sp_bylawq, if_pos c_5, if_neg c_14], vk_rf v⟩
    · skip
      have c_14 := bI_ne0 (P := 0 ≤ n ∧ n ≤ 2) rfl c_14
      obtain ⟨kk, hkk, rfl⟩ := ix_nI (by omega) c_5
      have e_kk : (nI kk).toNatClampNeg = kk := nI_clamp (by omega)
      refine lv_aload_n hx hb dX5_byLaw_17 rfl (lv_at hl 0 rfl) ?_
      refine lv_aload_n hx hb dX5_byLaw_18 rfl (lv_at hl 0 rfl) ?_
      refine va_get (D := (dC, dI)) (ci := 4) (v := .ref (a 4)) (C := RX5) (T := TX5) (N := 41) hx hb hts in_X5 hown hK.1 hP 0 rfl rfl 4 (by decide) (hts _ q1096) (fun _ h9 => h9) rfl dX5_byLaw_19 ?_
      refine lv_iload_n hx hb dX5_byLaw_22 rfl (lv_at hl 1 rfl) ?_
      refine va_iald hx hb hK.1 hP 5 0 rfl rfl (vp_in_nI (by omega) (by omega)) dX5_byLaw_23 ?_
      refine lv_eqi (y := (knd kk)) (congrArg knd (nI_clamp (by omega))) ?_
      refine lv_aload_n hx hb dX5_byLaw_24 rfl (lv_at hl 0 rfl) ?_
      refine va_get (D := (dC, dI)) (ci := 4) (v := .ref (a 5)) (C := RX5) (T := TX5) (N := 41) hx hb hts in_X5 hown hK.1 hP 0 rfl rfl 5 (by decide) (hts _ q1097) (fun _ h9 => h9) rfl dX5_byLaw_25 ?_
      refine lv_iload_n hx hb dX5_byLaw_28 rfl (lv_at hl 1 rfl) ?_
      refine va_iald hx hb hK.1 hP 6 0 rfl rfl (vp_in_nI (by omega) (by omega)) dX5_byLaw_29 ?_
      refine lv_eqi (y := (fig kk)) (congrArg fig (nI_clamp (by omega))) ?_
      refine lv_aload_n hx hb dX5_byLaw_30 rfl (lv_at hl 0 rfl) ?_
      refine va_get (D := (dC, dI)) (ci := 4) (v := .ref (a 6)) (C := RX5) (T := TX5) (N := 41) hx hb hts in_X5 hown hK.1 hP 0 rfl rfl 6 (by decide) (hts _ q1098) (fun _ h9 => h9) rfl dX5_byLaw_31 ?_
      refine lv_iload_n hx hb dX5_byLaw_34 rfl (lv_at hl 1 rfl) ?_
      refine va_iald hx hb hK.1 hP 7 0 rfl rfl (vp_in_nI (by omega) (by omega)) dX5_byLaw_35 ?_
      refine lv_eqi (y := (dri kk)) (congrArg dri (nI_clamp (by omega))) ?_
      refine lv_aload_n hx hb dX5_byLaw_36 rfl (lv_at hl 0 rfl) ?_
      refine va_get (D := (dC, dI)) (ci := 4) (v := .ref (a 7)) (C := RX5) (T := TX5) (N := 41) hx hb hts in_X5 hown hK.1 hP 0 rfl rfl 7 (by decide) (hts _ q1099) (fun _ h9 => h9) rfl dX5_byLaw_37 ?_
      refine lv_iload_n hx hb dX5_byLaw_40 rfl (lv_at hl 1 rfl) ?_
      refine va_iald hx hb hK.1 hP 8 0 rfl rfl (vp_in_nI (by omega) (by omega)) dX5_byLaw_41 ?_
      refine lv_eqi (y := (wak kk)) (congrArg wak (nI_clamp (by omega))) ?_
      refine lv_iload_n hx hb dX5_byLaw_42 rfl (lv_at hl 2 rfl) ?_
      refine rw_i (wr := [((a 4), .inl (dA 0, 6, .inl knd)), ((a 5), .inl (dA 0, 6, .inl fig)), ((a 6), .inl (dA 0, 6, .inl dri)), ((a 7), .inl (dA 0, 6, .inl wak))]) (rw_V (rest := []) (As := [.int (knd kk), .int (fig kk), .int (dri kk), .int (wak kk), .int n]) (wc := [(m0, .inr (4, moF a v)), ((a 0), .inl (dA 0, 4, .inl (mn4 wn kn pn lw))), ((a 1), .inl (dA 0, 5, .inl att)), ((a 2), .inl (dA 0, 5, .inl wal)), ((a 3), .inl (dA 0, 5, .inl fin)), ((a 8), .inl (dA 0, 8, .inl pla)), ((a 21), .inl (dA 0, 16, .inl lkd)), ((a 25), .inl (dA 0, 5, .inl cam))]) ⟨hx, hb, hml, hown, hts⟩ (met_X5_dayOf_2f _ m0 a v wn kn pn lw att wal fin pla lkd cam (knd kk) (fig kk) (dri kk) (wak kk) n (by assumption) (by assumption) (by assumption) (hwa kk hkk)) (cwV 5 hts (lw_V q1283 q1285 qs27 q46 q1286) rfl rfl rfl hdV_X5_dayOf_2 ⟨Nat.le_of_ble_eq_true rfl, Nat.le_of_ble_eq_true rfl⟩) hK hP hD [0, 1, 2, 3, 4, 9, 10, 11] rfl (by decide) (va_recv hK.1 hP (ci := 4) (q0 := 0) rfl rfl) rfl hl.1 rfl (Nat.le_of_ble_eq_true rfl) dX5_byLaw_43 ⟨Nat.le_of_ble_eq_true rfl, Nat.le_of_ble_eq_true rfl⟩) hP hD hS hA [0, 1, 2, 3, 4, 9, 10, 11] [5, 6, 7, 8] rfl rfl (by decide) (by decide) (fun r_43 u_43 H locs h_43 hz_43 hP hD hS => ?_)
      obtain ⟨v2_43, lkd2_43, cam2_43⟩ := u_43
      have hP : va_P (dC, dI) vwCl [((a 4), .inl (dA 0, 6, .inl knd)), ((a 5), .inl (dA 0, 6, .inl fig)), ((a 6), .inl (dA 0, 6, .inl dri)), ((a 7), .inl (dA 0, 6, .inl wak)), (m0, .inr (4, moF a v2_43)), ((a 0), .inl (dA 0, 4, .inl (mn4 wn kn pn lw))), ((a 1), .inl (dA 0, 5, .inl att)), ((a 2), .inl (dA 0, 5, .inl wal)), ((a 3), .inl (dA 0, 5, .inl fin)), ((a 8), .inl (dA 0, 8, .inl pla)), ((a 21), .inl (dA 0, 16, .inl lkd2_43)), ((a 25), .inl (dA 0, 5, .inl cam2_43))] H := hP
      have hD : va_D A [((a 4), .inl (dA 0, 6, .inl knd)), ((a 5), .inl (dA 0, 6, .inl fig)), ((a 6), .inl (dA 0, 6, .inl dri)), ((a 7), .inl (dA 0, 6, .inl wak)), (m0, .inr (4, moF a v2_43)), ((a 0), .inl (dA 0, 4, .inl (mn4 wn kn pn lw))), ((a 1), .inl (dA 0, 5, .inl att)), ((a 2), .inl (dA 0, 5, .inl wal)), ((a 3), .inl (dA 0, 5, .inl fin)), ((a 8), .inl (dA 0, 8, .inl pla)), ((a 21), .inl (dA 0, 16, .inl lkd2_43)), ((a 25), .inl (dA 0, 5, .inl cam2_43))] := hD
      have f_43 : dyOK (sp_any (knd kk) (fig kk) (dri kk) n (wak kk) pn pla att wal fin wn) wn v v2_43 lkd2_43 cam2_43 := h_43.2
      obtain rfl : r_43 = sp_cost (sp_any (knd kk) (fig kk) (dri kk) n (wak kk) pn pla att wal fin wn) := h_43.1
      refine lv_goto (tgt := 50) hx hb dX5_byLaw_46 (by decide) ?_
      refine rt_i hx hb hr hlocks dX5_byLaw_50 hP hD hS (Nat.le_of_ble_eq_true rfl) (Nat.le_of_ble_eq_true rfl) (v2_43, lkd2_43, cam2_43) [4, 5, 6, 7, 8, 0, 1, 2, 3, 9, 10, 11] rfl (by decide) ?_
      exact ⟨by rw [sp_bylawq, if_pos c_5, if_pos c_14, e_kk], f_43.1⟩
theorem hdS_X5_bestKind : yX5_bestKind.cls ≠ "java/lang/invoke/MethodHandle" ∧ yX5_bestKind.cls ≠ "java/lang/invoke/VarHandle" ∧ (parseMethodDescriptor yX5_bestKind.desc).map (fun d => d.parameters.length) = some 1 := by decide +kernel
theorem hdV_X5_bestKind : yX5_bestKind.cls = RX5 ∧ yX5_bestKind.cls ≠ "java/lang/invoke/MethodHandle" ∧ yX5_bestKind.cls ≠ "java/lang/invoke/VarHandle" ∧ (parseMethodDescriptor yX5_bestKind.desc).map (fun d => d.parameters.length) = some 1 := ⟨rfl, hdS_X5_bestKind⟩
set_option maxHeartbeats 4000000 in
set_option maxRecDepth 100000 in
theorem met_X5_bestKind {l : Launch} {dC : Nat → ClassId} {dI : Nat → Nat → Nat} {dA : Nat → ClassId} (sz : Nat) (m0 : Nat) (a : Nat → Nat) (v : Nat → Int32) (wn : Nat) (kn : Nat) (pn : Nat) (lw : Int32) (att : Nat → Int32) (wal : Nat → Int32) (fin : Nat → Int32) (knd : Nat → Int32) (fig : Nat → Int32) (dri : Nat → Int32) (wak : Nat → Int32) (pla : Nat → Int32) (lkd : Nat → Int32) (cam : Nat → Int32) (k : Int32) (hw5 : wn ≤ 5) (hk6 : kn ≤ 6) (hp8 : pn ≤ 8) (htn : ∀ w, w < wn → (0 ≤ att w ∧ att w ≤ 719) ∧ (0 ≤ wal w ∧ wal w ≤ 59)) (hwa : ∀ k, k < kn → 0 ≤ wak k ∧ wak k ≤ 719) : Met l yX5_bestKind (ws_ yX5_bestKind cX5_bestKind 6 (some .int)) ({ frames := 11, cells := 0, slots := 0, locals := 900 } : Room) (RwP dC dI dA [.ref m0, .int k] [(m0, .inr (4, moF a v)), ((a 0), .inl (dA 0, 4, .inl (mn4 wn kn pn lw))), ((a 1), .inl (dA 0, 5, .inl att)), ((a 2), .inl (dA 0, 5, .inl wal)), ((a 3), .inl (dA 0, 5, .inl fin)), ((a 4), .inl (dA 0, 6, .inl knd)), ((a 5), .inl (dA 0, 6, .inl fig)), ((a 6), .inl (dA 0, 6, .inl dri)), ((a 7), .inl (dA 0, 6, .inl wak)), ((a 8), .inl (dA 0, 8, .inl pla)), ((a 21), .inl (dA 0, 16, .inl lkd)), ((a 25), .inl (dA 0, 5, .inl cam))] sz) (va_Qi (fun (r : Int32) (u : (Nat → Int32) × (Nat → Int32) × (Nat → Int32)) => r = sp_bfq kn (fun kk => (sp_bst (fun k9 => sp_cost (sp_any (nI k9) (fig kk) (dri kk) lw (wak kk) pn pla att wal fin wn)) 7).1) k ∧ sp_vk u.1 v) (RwB dC dI (va_A [(m0, .inr (4, moF a v)), ((a 0), .inl (dA 0, 4, .inl (mn4 wn kn pn lw))), ((a 1), .inl (dA 0, 5, .inl att)), ((a 2), .inl (dA 0, 5, .inl wal)), ((a 3), .inl (dA 0, 5, .inl fin)), ((a 4), .inl (dA 0, 6, .inl knd)), ((a 5), .inl (dA 0, 6, .inl fig)), ((a 6), .inl (dA 0, 6, .inl dri)), ((a 7), .inl (dA 0, 6, .inl wak)), ((a 8), .inl (dA 0, 8, .inl pla)), ((a 21), .inl (dA 0, 16, .inl lkd)), ((a 25), .inl (dA 0, 5, .inl cam))] sz) (fun (u : (Nat → Int32) × (Nat → Int32) × (Nat → Int32)) => [(m0, .inr (4, moF a u.1)), ((a 0), .inl (dA 0, 4, .inl (mn4 wn kn pn lw))), ((a 1), .inl (dA 0, 5, .inl att)), ((a 2), .inl (dA 0, 5, .inl wal)), ((a 3), .inl (dA 0, 5, .inl fin)), ((a 4), .inl (dA 0, 6, .inl knd)), ((a 5), .inl (dA 0, 6, .inl fig)), ((a 6), .inl (dA 0, 6, .inl dri)), ((a 7), .inl (dA 0, 6, .inl wak)), ((a 8), .inl (dA 0, 8, .inl pla)), ((a 21), .inl (dA 0, 16, .inl u.2.1)), ((a 25), .inl (dA 0, 5, .inl u.2.2))])) (va_A [(m0, .inr (4, moF a v)), ((a 0), .inl (dA 0, 4, .inl (mn4 wn kn pn lw))), ((a 1), .inl (dA 0, 5, .inl att)), ((a 2), .inl (dA 0, 5, .inl wal)), ((a 3), .inl (dA 0, 5, .inl fin)), ((a 4), .inl (dA 0, 6, .inl knd)), ((a 5), .inl (dA 0, 6, .inl fig)), ((a 6), .inl (dA 0, 6, .inl dri)), ((a 7), .inl (dA 0, 6, .inl wak)), ((a 8), .inl (dA 0, 8, .inl pla)), ((a 21), .inl (dA 0, 16, .inl lkd)), ((a 25), .inl (dA 0, 5, .inl cam))] sz)) 0 0 (va_A [(m0, .inr (4, moF a v)), ((a 0), .inl (dA 0, 4, .inl (mn4 wn kn pn lw))), ((a 1), .inl (dA 0, 5, .inl att)), ((a 2), .inl (dA 0, 5, .inl wal)), ((a 3), .inl (dA 0, 5, .inl fin)), ((a 4), .inl (dA 0, 6, .inl knd)), ((a 5), .inl (dA 0, 6, .inl fig)), ((a 6), .inl (dA 0, 6, .inl dri)), ((a 7), .inl (dA 0, 6, .inl wak)), ((a 8), .inl (dA 0, 8, .inl pla)), ((a 21), .inl (dA 0, 16, .inl lkd)), ((a 25), .inl (dA 0, 5, .inl cam))] sz) := by
  refine ofRw (cc := cX5_bestKind) (maxL := 6) (ret := (some .int)) (Qf := fun A => va_Qi (fun (r : Int32) (u : (Nat → Int32) × (Nat → Int32) × (Nat → Int32)) => r = sp_bfq kn (fun kk => (sp_bst (fun k9 => sp_cost (sp_any (nI k9) (fig kk) (dri kk) lw (wak kk) pn pla att wal fin wn)) 7).1) k ∧ sp_vk u.1 v) (RwB dC dI A (fun (u : (Nat → Int32) × (Nat → Int32) × (Nat → Int32)) => [(m0, .inr (4, moF a u.1)), ((a 0), .inl (dA 0, 4, .inl (mn4 wn kn pn lw))), ((a 1), .inl (dA 0, 5, .inl att)), ((a 2), .inl (dA 0, 5, .inl wal)), ((a 3), .inl (dA 0, 5, .inl fin)), ((a 4), .inl (dA 0, 6, .inl knd)), ((a 5), .inl (dA 0, 6, .inl fig)), ((a 6), .inl (dA 0, 6, .inl dri)), ((a 7), .inl (dA 0, 6, .inl wak)), ((a 8), .inl (dA 0, 8, .inl pla)), ((a 21), .inl (dA 0, 16, .inl u.2.1)), ((a 25), .inl (dA 0, 5, .inl u.2.2))])) A) (by decide) rfl (fun w h => List.mem_cons_of_mem _ h) (Nat.le_of_ble_eq_true rfl) ?_
  intro p e s m below meth c ls A hx hb hr hlocks hml hts hown hP hK hD hA hnm hsz hl
  have hS : va_S A s.heap s.heap [] := va_S.rf
  obtain ⟨H, hHe⟩ : ∃ H, H = s.heap := ⟨_, rfl⟩
  obtain ⟨locs, hlo⟩ : ∃ z : List Loc, z = [] := ⟨_, rfl⟩
  have hS : va_S A s.heap H locs := by rw [hHe, hlo]; exact hS
  suffices K0 : W p l e _ s m _ below meth c H locs 0 0 _ _ by rw [hHe, hlo] at K0; exact K0
  rw [← hHe] at hP
  have hown : s.vm.findClass RX5 = some m.cls := hown
  have hl : lv_has ls 6 [(0, .ref m0), (1, .int k)] := hl
  refine lv_aload_n hx hb dX5_bestKind_0 rfl (lv_at hl 0 rfl) ?_
  refine lv_iload_n hx hb dX5_bestKind_1 rfl (lv_at hl 1 rfl) ?_
  refine ro_V (rest := []) (As := [.int k]) (wc := [(m0, .inr (4, moF a v)), ((a 0), .inl (dA 0, 4, .inl (mn4 wn kn pn lw)))]) ⟨hx, hb, hml, hown, hts⟩ (met_X5_isLooker m0 a v wn kn pn lw k) (cwV 1 hts (lw_V q1256 q1258 qs25 q46 q1259) rfl rfl rfl hdV_X5_isLooker ⟨Nat.le_of_ble_eq_true rfl, Nat.le_of_ble_eq_true rfl⟩) hK hP [0, 1] rfl (va_recv hK.1 hP (ci := 4) (q0 := 0) rfl rfl) rfl hl.1 rfl (Nat.le_of_ble_eq_true rfl) dX5_bestKind_2 ⟨Nat.le_of_ble_eq_true rfl, Nat.le_of_ble_eq_true rfl⟩ (fun r_2 h_2 => ?_)
  obtain rfl : r_2 = bI (0 ≤ k ∧ k ≤ nI kn - 1) := h_2
  refine lv_if_ne (tgt := 10) hx hb dX5_bestKind_5 (by decide) (fun c_5 => ?_) (fun c_5 => ?_)
  · skip
    have c_5 := bI_ne0 (P := 0 ≤ k ∧ k ≤ nI kn - 1) rfl c_5
    obtain ⟨kk, hkk, rfl⟩ := ix_nI (by omega) c_5
    have e_kk : (nI kk).toNatClampNeg = kk := nI_clamp (by omega)
    refine lv_iconst (v := 0) hx hb dX5_bestKind_10 (by decide) ?_
    refine lv_istore_n (lv' := [(2, .int 0), (0, .ref m0), (1, .int (nI kk))]) hx hb dX5_bestKind_11 rfl hl (by decide) rfl (fun ls hl => ?_)
    refine lv_iconst (v := 0) hx hb dX5_bestKind_12 (by decide) ?_
    refine lv_istore_n (lv' := [(3, .int 0), (2, .int 0), (0, .ref m0), (1, .int (nI kk))]) hx hb dX5_bestKind_13 rfl hl (by decide) rfl (fun ls hl => ?_)
    refine lv_iconst (v := 0) hx hb dX5_bestKind_14 (by decide) ?_
    refine lv_istore (lv' := [(4, .int 0), (3, .int 0), (2, .int 0), (0, .ref m0), (1, .int (nI kk))]) hx hb dX5_bestKind_15 hl (by decide) rfl (fun ls hl => ?_)
    have K_17 : ∀ (fuel : Nat), ∀ (x2 : Int32) (x3 : Int32) (f : Nat) (v1 : Nat → Int32) (lk1 : Nat → Int32) (cm1 : Nat → Int32), (f ≤ 8) → (8 < f + fuel) → (0 < f → x2 = nI (sp_bst (fun k9 => sp_cost (sp_any (nI k9) (fig kk) (dri kk) lw (wak kk) pn pla att wal fin wn)) (f - 1)).1 ∧ x3 = (sp_bst (fun k9 => sp_cost (sp_any (nI k9) (fig kk) (dri kk) lw (wak kk) pn pla att wal fin wn)) (f - 1)).2) → (sp_vk v1 v) → ∀ (H : Heap) (locs : List Loc) (ls : Array Slot), va_P (dC, dI) vwCl [(m0, .inr (4, moF a v1)), ((a 0), .inl (dA 0, 4, .inl (mn4 wn kn pn lw))), ((a 1), .inl (dA 0, 5, .inl att)), ((a 2), .inl (dA 0, 5, .inl wal)), ((a 3), .inl (dA 0, 5, .inl fin)), ((a 4), .inl (dA 0, 6, .inl knd)), ((a 5), .inl (dA 0, 6, .inl fig)), ((a 6), .inl (dA 0, 6, .inl dri)), ((a 7), .inl (dA 0, 6, .inl wak)), ((a 8), .inl (dA 0, 8, .inl pla)), ((a 21), .inl (dA 0, 16, .inl lk1)), ((a 25), .inl (dA 0, 5, .inl cm1))] H → va_D A [(m0, .inr (4, moF a v1)), ((a 0), .inl (dA 0, 4, .inl (mn4 wn kn pn lw))), ((a 1), .inl (dA 0, 5, .inl att)), ((a 2), .inl (dA 0, 5, .inl wal)), ((a 3), .inl (dA 0, 5, .inl fin)), ((a 4), .inl (dA 0, 6, .inl knd)), ((a 5), .inl (dA 0, 6, .inl fig)), ((a 6), .inl (dA 0, 6, .inl dri)), ((a 7), .inl (dA 0, 6, .inl wak)), ((a 8), .inl (dA 0, 8, .inl pla)), ((a 21), .inl (dA 0, 16, .inl lk1)), ((a 25), .inl (dA 0, 5, .inl cm1))] → va_S A s.heap H locs → lv_has ls 6 [(0, .ref m0), (1, .int (nI kk)), (2, .int x2), (3, .int x3), (4, .int (nI f))] → W p l e ({ frames := 11, cells := 0, slots := 0, locals := 900 } : Room) s m ([.ref m0, .int (nI kk)] : List Value).toArray below meth c H locs 0 0 (MQ below (va_Qi (fun (r : Int32) (u : (Nat → Int32) × (Nat → Int32) × (Nat → Int32)) => r = sp_bfq kn (fun kk => (sp_bst (fun k9 => sp_cost (sp_any (nI k9) (fig kk) (dri kk) lw (wak kk) pn pla att wal fin wn)) 7).1) (nI kk) ∧ sp_vk u.1 v) (RwB dC dI A (fun (u : (Nat → Int32) × (Nat → Int32) × (Nat → Int32)) => [(m0, .inr (4, moF a u.1)), ((a 0), .inl (dA 0, 4, .inl (mn4 wn kn pn lw))), ((a 1), .inl (dA 0, 5, .inl att)), ((a 2), .inl (dA 0, 5, .inl wal)), ((a 3), .inl (dA 0, 5, .inl fin)), ((a 4), .inl (dA 0, 6, .inl knd)), ((a 5), .inl (dA 0, 6, .inl fig)), ((a 6), .inl (dA 0, 6, .inl dri)), ((a 7), .inl (dA 0, 6, .inl wak)), ((a 8), .inl (dA 0, 8, .inl pla)), ((a 21), .inl (dA 0, 16, .inl u.2.1)), ((a 25), .inl (dA 0, 5, .inl u.2.2))])) A) ([.ref m0, .int (nI kk)] : List Value).toArray s 0 0 A) (F0 m 17 ls []) := by
      intro fuel
      induction fuel with
      | zero =>
        intro x2 x3 f v1 lk1 cm1 hf0 hf hx9 hv1 H locs ls hP hD hS hl
        exact absurd hf (by omega)
      | succ fuel ih_17 =>
        intro x2 x3 f v1 lk1 cm1 hf0 hf hx9 hv1 H locs ls hP hD hS hl
        refine lv_iload hx hb dX5_bestKind_17 (lv_at hl 4 rfl) ?_
        refine lv_bipush (v := 8) hx hb dX5_bestKind_19 (by decide) ?_
        refine lv_icmp_ge (tgt := 79) hx hb dX5_bestKind_21 (by decide) (fun c_21 => ?_) (fun c_21 => ?_)
        · skip
          have n_c_21 : 8 ≤ f := (nI_leI (a := 8) (b := f) (by omega) (by omega)).mp c_21
          refine lv_iload_n hx hb dX5_bestKind_79 rfl (lv_at hl 2 rfl) ?_
          refine rt_i hx hb hr hlocks dX5_bestKind_80 hP hD hS (Nat.le_of_ble_eq_true rfl) (Nat.le_of_ble_eq_true rfl) (v1, lk1, cm1) [0, 1, 2, 3, 4, 5, 6, 7, 8, 9, 10, 11] rfl (by decide) ?_
          obtain rfl : f = 8 := by omega
          exact ⟨by rw [sp_bfq, if_pos c_5, e_kk]; exact (hx9 (by omega)).1, hv1⟩
        · skip
          have n_c_21 : ¬ 8 ≤ f := fun h9 => c_21 ((nI_leI (a := 8) (b := f) (by omega) (by omega)).mpr h9)
          refine lv_aload_n hx hb dX5_bestKind_24 rfl (lv_at hl 0 rfl) ?_
          refine lv_iload hx hb dX5_bestKind_25 (lv_at hl 4 rfl) ?_
          refine lv_aload_n hx hb dX5_bestKind_27 rfl (lv_at hl 0 rfl) ?_
          refine va_get (D := (dC, dI)) (ci := 4) (v := .ref (a 5)) (C := RX5) (T := TX5) (N := 41) hx hb hts in_X5 hown hK.1 hP 0 rfl rfl 5 (by decide) (hts _ q1097) (fun _ h9 => h9) rfl dX5_bestKind_28 ?_
          refine lv_iload_n hx hb dX5_bestKind_31 rfl (lv_at hl 1 rfl) ?_
          refine va_iald hx hb hK.1 hP 6 0 rfl rfl (vp_in_nI (by omega) (by omega)) dX5_bestKind_32 ?_
          refine lv_eqi (y := (fig kk)) (congrArg fig (nI_clamp (by omega))) ?_
          refine lv_aload_n hx hb dX5_bestKind_33 rfl (lv_at hl 0 rfl) ?_
          refine va_get (D := (dC, dI)) (ci := 4) (v := .ref (a 6)) (C := RX5) (T := TX5) (N := 41) hx hb hts in_X5 hown hK.1 hP 0 rfl rfl 6 (by decide) (hts _ q1098) (fun _ h9 => h9) rfl dX5_bestKind_34 ?_
          refine lv_iload_n hx hb dX5_bestKind_37 rfl (lv_at hl 1 rfl) ?_
          refine va_iald hx hb hK.1 hP 7 0 rfl rfl (vp_in_nI (by omega) (by omega)) dX5_bestKind_38 ?_
          refine lv_eqi (y := (dri kk)) (congrArg dri (nI_clamp (by omega))) ?_
          refine lv_aload_n hx hb dX5_bestKind_39 rfl (lv_at hl 0 rfl) ?_
          refine va_get (D := (dC, dI)) (ci := 4) (v := .ref (a 7)) (C := RX5) (T := TX5) (N := 41) hx hb hts in_X5 hown hK.1 hP 0 rfl rfl 7 (by decide) (hts _ q1099) (fun _ h9 => h9) rfl dX5_bestKind_40 ?_
          refine lv_iload_n hx hb dX5_bestKind_43 rfl (lv_at hl 1 rfl) ?_
          refine va_iald hx hb hK.1 hP 8 0 rfl rfl (vp_in_nI (by omega) (by omega)) dX5_bestKind_44 ?_
          refine lv_eqi (y := (wak kk)) (congrArg wak (nI_clamp (by omega))) ?_
          refine lv_aload_n hx hb dX5_bestKind_45 rfl (lv_at hl 0 rfl) ?_
          refine va_get (D := (dC, dI)) (ci := 4) (v := .ref (a 0)) (C := RX5) (T := TX5) (N := 41) hx hb hts in_X5 hown hK.1 hP 0 rfl rfl 0 (by decide) (hts _ q1092) (fun _ h9 => h9) rfl dX5_bestKind_46 ?_
          refine lv_iconst (v := 3) hx hb dX5_bestKind_49 (by decide) ?_
          refine va_iald hx hb hK.1 hP 1 0 rfl rfl (vin (by decide)) dX5_bestKind_50 ?_
          refine lv_eqi (y := lw) rfl ?_
          refine rw_i (wr := [((a 4), .inl (dA 0, 6, .inl knd)), ((a 5), .inl (dA 0, 6, .inl fig)), ((a 6), .inl (dA 0, 6, .inl dri)), ((a 7), .inl (dA 0, 6, .inl wak))]) (rw_V (rest := []) (As := [.int (nI f), .int (fig kk), .int (dri kk), .int (wak kk), .int lw]) (wc := [(m0, .inr (4, moF a v1)), ((a 0), .inl (dA 0, 4, .inl (mn4 wn kn pn lw))), ((a 1), .inl (dA 0, 5, .inl att)), ((a 2), .inl (dA 0, 5, .inl wal)), ((a 3), .inl (dA 0, 5, .inl fin)), ((a 8), .inl (dA 0, 8, .inl pla)), ((a 21), .inl (dA 0, 16, .inl lk1)), ((a 25), .inl (dA 0, 5, .inl cm1))]) ⟨hx, hb, hml, hown, hts⟩ (met_X5_dayOf_2f _ m0 a v1 wn kn pn lw att wal fin pla lk1 cm1 (nI f) (fig kk) (dri kk) (wak kk) lw (by assumption) (by assumption) (by assumption) (hwa kk hkk)) (cwV 5 hts (lw_V q1283 q1285 qs27 q46 q1286) rfl rfl rfl hdV_X5_dayOf_2 ⟨Nat.le_of_ble_eq_true rfl, Nat.le_of_ble_eq_true rfl⟩) hK hP hD [0, 1, 2, 3, 4, 9, 10, 11] rfl (by decide) (va_recv hK.1 hP (ci := 4) (q0 := 0) rfl rfl) rfl hl.1 rfl (Nat.le_of_ble_eq_true rfl) dX5_bestKind_51 ⟨Nat.le_of_ble_eq_true rfl, Nat.le_of_ble_eq_true rfl⟩) hP hD hS hA [0, 1, 2, 3, 4, 9, 10, 11] [5, 6, 7, 8] rfl rfl (by decide) (by decide) (fun r_51 u_51 H locs h_51 hz_51 hP hD hS => ?_)
          obtain ⟨v2_51, lkd2_51, cam2_51⟩ := u_51
          have hP : va_P (dC, dI) vwCl [((a 4), .inl (dA 0, 6, .inl knd)), ((a 5), .inl (dA 0, 6, .inl fig)), ((a 6), .inl (dA 0, 6, .inl dri)), ((a 7), .inl (dA 0, 6, .inl wak)), (m0, .inr (4, moF a v2_51)), ((a 0), .inl (dA 0, 4, .inl (mn4 wn kn pn lw))), ((a 1), .inl (dA 0, 5, .inl att)), ((a 2), .inl (dA 0, 5, .inl wal)), ((a 3), .inl (dA 0, 5, .inl fin)), ((a 8), .inl (dA 0, 8, .inl pla)), ((a 21), .inl (dA 0, 16, .inl lkd2_51)), ((a 25), .inl (dA 0, 5, .inl cam2_51))] H := hP
          have hD : va_D A [((a 4), .inl (dA 0, 6, .inl knd)), ((a 5), .inl (dA 0, 6, .inl fig)), ((a 6), .inl (dA 0, 6, .inl dri)), ((a 7), .inl (dA 0, 6, .inl wak)), (m0, .inr (4, moF a v2_51)), ((a 0), .inl (dA 0, 4, .inl (mn4 wn kn pn lw))), ((a 1), .inl (dA 0, 5, .inl att)), ((a 2), .inl (dA 0, 5, .inl wal)), ((a 3), .inl (dA 0, 5, .inl fin)), ((a 8), .inl (dA 0, 8, .inl pla)), ((a 21), .inl (dA 0, 16, .inl lkd2_51)), ((a 25), .inl (dA 0, 5, .inl cam2_51))] := hD
          have f_51 : dyOK (sp_any (nI f) (fig kk) (dri kk) lw (wak kk) pn pla att wal fin wn) wn v1 v2_51 lkd2_51 cam2_51 := h_51.2
          obtain rfl : r_51 = sp_cost (sp_any (nI f) (fig kk) (dri kk) lw (wak kk) pn pla att wal fin wn) := h_51.1
          refine lv_istore (lv' := [(5, .int (sp_cost (sp_any (nI f) (fig kk) (dri kk) lw (wak kk) pn pla att wal fin wn))), (0, .ref m0), (1, .int (nI kk)), (2, .int x2), (3, .int x3), (4, .int (nI f))]) hx hb dX5_bestKind_54 hl (by decide) rfl (fun ls hl => ?_)
          refine lv_iload hx hb dX5_bestKind_56 (lv_at hl 5 rfl) ?_
          refine lv_if_eq (tgt := 67) hx hb dX5_bestKind_58 (by decide) (fun c_58 => ?_) (fun c_58 => ?_)
          · skip
            have n_c_58 : f = 0 := (nI_eq (a := f) (b := 0) (by omega) (by omega)).mp c_58
            refine lv_iload hx hb dX5_bestKind_67 (lv_at hl 0 rfl) ?_
            refine lv_istore_n (lv' := [(3, .int (sp_cost (sp_any (nI f) (fig kk) (dri kk) lw (wak kk) pn pla att wal fin wn))), (5, .int (sp_cost (sp_any (nI f) (fig kk) (dri kk) lw (wak kk) pn pla att wal fin wn))), (0, .ref m0), (1, .int (nI kk)), (2, .int x2), (4, .int (nI f))]) hx hb dX5_bestKind_69 rfl hl (by decide) rfl (fun ls hl => ?_)
            refine lv_iload hx hb dX5_bestKind_70 (lv_at hl 5 rfl) ?_
            refine lv_istore_n (lv' := [(2, .int (nI f)), (3, .int (sp_cost (sp_any (nI f) (fig kk) (dri kk) lw (wak kk) pn pla att wal fin wn))), (5, .int (sp_cost (sp_any (nI f) (fig kk) (dri kk) lw (wak kk) pn pla att wal fin wn))), (0, .ref m0), (1, .int (nI kk)), (4, .int (nI f))]) hx hb dX5_bestKind_72 rfl hl (by decide) rfl (fun ls hl => ?_)
            refine lv_iinc (v := (nI (f + 1))) (lv' := [(4, .int (nI (f + 1))), (2, .int (nI f)), (3, .int (sp_cost (sp_any (nI f) (fig kk) (dri kk) lw (wak kk) pn pla att wal fin wn))), (5, .int (sp_cost (sp_any (nI f) (fig kk) (dri kk) lw (wak kk) pn pla att wal fin wn))), (0, .ref m0), (1, .int (nI kk))]) hx hb dX5_bestKind_73 hl (k := 5) rfl (nI_1 f) (by decide) rfl (fun ls hl => ?_)
            refine lv_goto (tgt := 17) hx hb dX5_bestKind_76 (by decide) ?_
            exact ih_17 (nI f) (sp_cost (sp_any (nI f) (fig kk) (dri kk) lw (wak kk) pn pla att wal fin wn)) (f + 1) v2_51 lkd2_51 cam2_51 (by omega) (by omega) (fun _ => by obtain rfl : f = 0 := n_c_58; exact ⟨rfl, rfl⟩) (vk_tr f_51.1 hv1) H locs ls (hP.sub [4, 5, 6, 7, 8, 0, 1, 2, 3, 9, 10, 11] rfl) (hD.sub [4, 5, 6, 7, 8, 0, 1, 2, 3, 9, 10, 11] (by decide) rfl) hS (lv_sub hl [4, 5, 1, 2, 0] rfl)
          · skip
            have n_c_58 : ¬ f = 0 := fun h9 => c_58 ((nI_eq (a := f) (b := 0) (by omega) (by omega)).mpr h9)
            refine lv_iload hx hb dX5_bestKind_61 (lv_at hl 0 rfl) ?_
            refine lv_iload_n hx hb dX5_bestKind_63 rfl (lv_at hl 4 rfl) ?_
            refine lv_icmp_ge (tgt := 73) hx hb dX5_bestKind_64 (by decide) (fun c_64 => ?_) (fun c_64 => ?_)
            · skip
              refine lv_iinc (v := (nI (f + 1))) (lv' := [(4, .int (nI (f + 1))), (5, .int (sp_cost (sp_any (nI f) (fig kk) (dri kk) lw (wak kk) pn pla att wal fin wn))), (0, .ref m0), (1, .int (nI kk)), (2, .int x2), (3, .int x3)]) hx hb dX5_bestKind_73 hl (k := 5) rfl (nI_1 f) (by decide) rfl (fun ls hl => ?_)
              refine lv_goto (tgt := 17) hx hb dX5_bestKind_76 (by decide) ?_
              exact ih_17 x2 x3 (f + 1) v2_51 lkd2_51 cam2_51 (by omega) (by omega) (fun _ => bst_up (by omega) (hx9 (by omega)) (Or.inr ⟨Int32.not_lt.mpr c_64, rfl, rfl⟩)) (vk_tr f_51.1 hv1) H locs ls (hP.sub [4, 5, 6, 7, 8, 0, 1, 2, 3, 9, 10, 11] rfl) (hD.sub [4, 5, 6, 7, 8, 0, 1, 2, 3, 9, 10, 11] (by decide) rfl) hS (lv_sub hl [2, 3, 4, 5, 0] rfl)
            · skip
              refine lv_iload hx hb dX5_bestKind_67 (lv_at hl 0 rfl) ?_
              refine lv_istore_n (lv' := [(3, .int (sp_cost (sp_any (nI f) (fig kk) (dri kk) lw (wak kk) pn pla att wal fin wn))), (5, .int (sp_cost (sp_any (nI f) (fig kk) (dri kk) lw (wak kk) pn pla att wal fin wn))), (0, .ref m0), (1, .int (nI kk)), (2, .int x2), (4, .int (nI f))]) hx hb dX5_bestKind_69 rfl hl (by decide) rfl (fun ls hl => ?_)
              refine lv_iload hx hb dX5_bestKind_70 (lv_at hl 5 rfl) ?_
              refine lv_istore_n (lv' := [(2, .int (nI f)), (3, .int (sp_cost (sp_any (nI f) (fig kk) (dri kk) lw (wak kk) pn pla att wal fin wn))), (5, .int (sp_cost (sp_any (nI f) (fig kk) (dri kk) lw (wak kk) pn pla att wal fin wn))), (0, .ref m0), (1, .int (nI kk)), (4, .int (nI f))]) hx hb dX5_bestKind_72 rfl hl (by decide) rfl (fun ls hl => ?_)
              refine lv_iinc (v := (nI (f + 1))) (lv' := [(4, .int (nI (f + 1))), (2, .int (nI f)), (3, .int (sp_cost (sp_any (nI f) (fig kk) (dri kk) lw (wak kk) pn pla att wal fin wn))), (5, .int (sp_cost (sp_any (nI f) (fig kk) (dri kk) lw (wak kk) pn pla att wal fin wn))), (0, .ref m0), (1, .int (nI kk))]) hx hb dX5_bestKind_73 hl (k := 5) rfl (nI_1 f) (by decide) rfl (fun ls hl => ?_)
              refine lv_goto (tgt := 17) hx hb dX5_bestKind_76 (by decide) ?_
              exact ih_17 (nI f) (sp_cost (sp_any (nI f) (fig kk) (dri kk) lw (wak kk) pn pla att wal fin wn)) (f + 1) v2_51 lkd2_51 cam2_51 (by omega) (by omega) (fun _ => bst_up (by omega) (hx9 (by omega)) (Or.inl ⟨Int32.not_le.mp c_64, rfl, rfl⟩)) (vk_tr f_51.1 hv1) H locs ls (hP.sub [4, 5, 6, 7, 8, 0, 1, 2, 3, 9, 10, 11] rfl) (hD.sub [4, 5, 6, 7, 8, 0, 1, 2, 3, 9, 10, 11] (by decide) rfl) hS (lv_sub hl [4, 5, 1, 2, 0] rfl)
    exact K_17 9 0 0 0 v lkd cam (by omega) (by omega) (fun h9 => absurd h9 (by omega)) (vk_rf v) H locs ls hP hD hS (lv_sub hl [3, 4, 2, 1, 0] rfl)
  · skip
    have c_5 := bI_eq0 (P := 0 ≤ k ∧ k ≤ nI kn - 1) rfl c_5
    refine lv_iconst (v := (-1)) hx hb dX5_bestKind_8 (by decide) ?_
    refine rt_i hx hb hr hlocks dX5_bestKind_9 hP hD hS (Nat.le_of_ble_eq_true rfl) (Nat.le_of_ble_eq_true rfl) (v, lkd, cam) [0, 1, 2, 3, 4, 5, 6, 7, 8, 9, 10, 11] rfl (by decide) ?_
    exact ⟨by rw [sp_bfq]; first | rw [if_neg c_5], vk_rf v⟩
theorem hdS_X5_sum : yX5_sum.cls ≠ "java/lang/invoke/MethodHandle" ∧ yX5_sum.cls ≠ "java/lang/invoke/VarHandle" ∧ (parseMethodDescriptor yX5_sum.desc).map (fun d => d.parameters.length) = some 0 := by decide +kernel
theorem hdV_X5_sum : yX5_sum.cls = RX5 ∧ yX5_sum.cls ≠ "java/lang/invoke/MethodHandle" ∧ yX5_sum.cls ≠ "java/lang/invoke/VarHandle" ∧ (parseMethodDescriptor yX5_sum.desc).map (fun d => d.parameters.length) = some 0 := ⟨rfl, hdS_X5_sum⟩
set_option maxHeartbeats 4000000 in
set_option maxRecDepth 100000 in
theorem met_X5_sum {l : Launch} {dC : Nat → ClassId} {dI : Nat → Nat → Nat} {dA : Nat → ClassId} (sz : Nat) (m0 : Nat) (a : Nat → Nat) (v : Nat → Int32) (wn : Nat) (kn : Nat) (pn : Nat) (lw : Int32) (att : Nat → Int32) (wal : Nat → Int32) (fin : Nat → Int32) (knd : Nat → Int32) (fig : Nat → Int32) (dri : Nat → Int32) (wak : Nat → Int32) (pla : Nat → Int32) (lkd : Nat → Int32) (cam : Nat → Int32) (hw5 : wn ≤ 5) (hk6 : kn ≤ 6) (hp8 : pn ≤ 8) (htn : ∀ w, w < wn → (0 ≤ att w ∧ att w ≤ 719) ∧ (0 ≤ wal w ∧ wal w ≤ 59)) (hwa : ∀ k, k < kn → 0 ≤ wak k ∧ wak k ≤ 719) : Met l yX5_sum (ws_ yX5_sum cX5_sum 3 (some .int)) ({ frames := 11, cells := 0, slots := 0, locals := 900 } : Room) (RwP dC dI dA [.ref m0] [(m0, .inr (4, moF a v)), ((a 0), .inl (dA 0, 4, .inl (mn4 wn kn pn lw))), ((a 1), .inl (dA 0, 5, .inl att)), ((a 2), .inl (dA 0, 5, .inl wal)), ((a 3), .inl (dA 0, 5, .inl fin)), ((a 4), .inl (dA 0, 6, .inl knd)), ((a 5), .inl (dA 0, 6, .inl fig)), ((a 6), .inl (dA 0, 6, .inl dri)), ((a 7), .inl (dA 0, 6, .inl wak)), ((a 8), .inl (dA 0, 8, .inl pla)), ((a 21), .inl (dA 0, 16, .inl lkd)), ((a 25), .inl (dA 0, 5, .inl cam))] sz) (va_Qi (fun (r : Int32) (u : (Nat → Int32) × (Nat → Int32) × (Nat → Int32)) => r = sp_sumc (fun kk => sp_cost ((sp_lk knd fig dri wak lw pn pla att wal fin wn) kk)) kn ∧ sp_vk u.1 v) (RwB dC dI (va_A [(m0, .inr (4, moF a v)), ((a 0), .inl (dA 0, 4, .inl (mn4 wn kn pn lw))), ((a 1), .inl (dA 0, 5, .inl att)), ((a 2), .inl (dA 0, 5, .inl wal)), ((a 3), .inl (dA 0, 5, .inl fin)), ((a 4), .inl (dA 0, 6, .inl knd)), ((a 5), .inl (dA 0, 6, .inl fig)), ((a 6), .inl (dA 0, 6, .inl dri)), ((a 7), .inl (dA 0, 6, .inl wak)), ((a 8), .inl (dA 0, 8, .inl pla)), ((a 21), .inl (dA 0, 16, .inl lkd)), ((a 25), .inl (dA 0, 5, .inl cam))] sz) (fun (u : (Nat → Int32) × (Nat → Int32) × (Nat → Int32)) => [(m0, .inr (4, moF a u.1)), ((a 0), .inl (dA 0, 4, .inl (mn4 wn kn pn lw))), ((a 1), .inl (dA 0, 5, .inl att)), ((a 2), .inl (dA 0, 5, .inl wal)), ((a 3), .inl (dA 0, 5, .inl fin)), ((a 4), .inl (dA 0, 6, .inl knd)), ((a 5), .inl (dA 0, 6, .inl fig)), ((a 6), .inl (dA 0, 6, .inl dri)), ((a 7), .inl (dA 0, 6, .inl wak)), ((a 8), .inl (dA 0, 8, .inl pla)), ((a 21), .inl (dA 0, 16, .inl u.2.1)), ((a 25), .inl (dA 0, 5, .inl u.2.2))])) (va_A [(m0, .inr (4, moF a v)), ((a 0), .inl (dA 0, 4, .inl (mn4 wn kn pn lw))), ((a 1), .inl (dA 0, 5, .inl att)), ((a 2), .inl (dA 0, 5, .inl wal)), ((a 3), .inl (dA 0, 5, .inl fin)), ((a 4), .inl (dA 0, 6, .inl knd)), ((a 5), .inl (dA 0, 6, .inl fig)), ((a 6), .inl (dA 0, 6, .inl dri)), ((a 7), .inl (dA 0, 6, .inl wak)), ((a 8), .inl (dA 0, 8, .inl pla)), ((a 21), .inl (dA 0, 16, .inl lkd)), ((a 25), .inl (dA 0, 5, .inl cam))] sz)) 0 0 (va_A [(m0, .inr (4, moF a v)), ((a 0), .inl (dA 0, 4, .inl (mn4 wn kn pn lw))), ((a 1), .inl (dA 0, 5, .inl att)), ((a 2), .inl (dA 0, 5, .inl wal)), ((a 3), .inl (dA 0, 5, .inl fin)), ((a 4), .inl (dA 0, 6, .inl knd)), ((a 5), .inl (dA 0, 6, .inl fig)), ((a 6), .inl (dA 0, 6, .inl dri)), ((a 7), .inl (dA 0, 6, .inl wak)), ((a 8), .inl (dA 0, 8, .inl pla)), ((a 21), .inl (dA 0, 16, .inl lkd)), ((a 25), .inl (dA 0, 5, .inl cam))] sz) := by
  refine ofRw (cc := cX5_sum) (maxL := 3) (ret := (some .int)) (Qf := fun A => va_Qi (fun (r : Int32) (u : (Nat → Int32) × (Nat → Int32) × (Nat → Int32)) => r = sp_sumc (fun kk => sp_cost ((sp_lk knd fig dri wak lw pn pla att wal fin wn) kk)) kn ∧ sp_vk u.1 v) (RwB dC dI A (fun (u : (Nat → Int32) × (Nat → Int32) × (Nat → Int32)) => [(m0, .inr (4, moF a u.1)), ((a 0), .inl (dA 0, 4, .inl (mn4 wn kn pn lw))), ((a 1), .inl (dA 0, 5, .inl att)), ((a 2), .inl (dA 0, 5, .inl wal)), ((a 3), .inl (dA 0, 5, .inl fin)), ((a 4), .inl (dA 0, 6, .inl knd)), ((a 5), .inl (dA 0, 6, .inl fig)), ((a 6), .inl (dA 0, 6, .inl dri)), ((a 7), .inl (dA 0, 6, .inl wak)), ((a 8), .inl (dA 0, 8, .inl pla)), ((a 21), .inl (dA 0, 16, .inl u.2.1)), ((a 25), .inl (dA 0, 5, .inl u.2.2))])) A) (by decide) rfl (fun w h => List.mem_cons_of_mem _ h) (Nat.le_of_ble_eq_true rfl) ?_
  intro p e s m below meth c ls A hx hb hr hlocks hml hts hown hP hK hD hA hnm hsz hl
  have hS : va_S A s.heap s.heap [] := va_S.rf
  obtain ⟨H, hHe⟩ : ∃ H, H = s.heap := ⟨_, rfl⟩
  obtain ⟨locs, hlo⟩ : ∃ z : List Loc, z = [] := ⟨_, rfl⟩
  have hS : va_S A s.heap H locs := by rw [hHe, hlo]; exact hS
  suffices K0 : W p l e _ s m _ below meth c H locs 0 0 _ _ by rw [hHe, hlo] at K0; exact K0
  rw [← hHe] at hP
  have hown : s.vm.findClass RX5 = some m.cls := hown
  have hl : lv_has ls 3 [(0, .ref m0)] := hl
  refine lv_iconst (v := 0) hx hb dX5_sum_0 (by decide) ?_
  refine lv_istore_n (lv' := [(1, .int 0), (0, .ref m0)]) hx hb dX5_sum_1 rfl hl (by decide) rfl (fun ls hl => ?_)
  refine lv_iconst (v := 0) hx hb dX5_sum_2 (by decide) ?_
  refine lv_istore_n (lv' := [(2, .int 0), (1, .int 0), (0, .ref m0)]) hx hb dX5_sum_3 rfl hl (by decide) rfl (fun ls hl => ?_)
  have K_4 : ∀ (fuel : Nat), ∀ (k : Nat) (v1 : Nat → Int32) (lk1 : Nat → Int32) (cm1 : Nat → Int32), (k ≤ kn) → (kn < k + fuel) → (sp_vk v1 v) → ∀ (H : Heap) (locs : List Loc) (ls : Array Slot), va_P (dC, dI) vwCl [(m0, .inr (4, moF a v1)), ((a 0), .inl (dA 0, 4, .inl (mn4 wn kn pn lw))), ((a 1), .inl (dA 0, 5, .inl att)), ((a 2), .inl (dA 0, 5, .inl wal)), ((a 3), .inl (dA 0, 5, .inl fin)), ((a 4), .inl (dA 0, 6, .inl knd)), ((a 5), .inl (dA 0, 6, .inl fig)), ((a 6), .inl (dA 0, 6, .inl dri)), ((a 7), .inl (dA 0, 6, .inl wak)), ((a 8), .inl (dA 0, 8, .inl pla)), ((a 21), .inl (dA 0, 16, .inl lk1)), ((a 25), .inl (dA 0, 5, .inl cm1))] H → va_D A [(m0, .inr (4, moF a v1)), ((a 0), .inl (dA 0, 4, .inl (mn4 wn kn pn lw))), ((a 1), .inl (dA 0, 5, .inl att)), ((a 2), .inl (dA 0, 5, .inl wal)), ((a 3), .inl (dA 0, 5, .inl fin)), ((a 4), .inl (dA 0, 6, .inl knd)), ((a 5), .inl (dA 0, 6, .inl fig)), ((a 6), .inl (dA 0, 6, .inl dri)), ((a 7), .inl (dA 0, 6, .inl wak)), ((a 8), .inl (dA 0, 8, .inl pla)), ((a 21), .inl (dA 0, 16, .inl lk1)), ((a 25), .inl (dA 0, 5, .inl cm1))] → va_S A s.heap H locs → lv_has ls 3 [(0, .ref m0), (1, .int (sp_sumc (fun kk => sp_cost ((sp_lk knd fig dri wak lw pn pla att wal fin wn) kk)) k)), (2, .int (nI k))] → W p l e ({ frames := 11, cells := 0, slots := 0, locals := 900 } : Room) s m ([.ref m0] : List Value).toArray below meth c H locs 0 0 (MQ below (va_Qi (fun (r : Int32) (u : (Nat → Int32) × (Nat → Int32) × (Nat → Int32)) => r = sp_sumc (fun kk => sp_cost ((sp_lk knd fig dri wak lw pn pla att wal fin wn) kk)) kn ∧ sp_vk u.1 v) (RwB dC dI A (fun (u : (Nat → Int32) × (Nat → Int32) × (Nat → Int32)) => [(m0, .inr (4, moF a u.1)), ((a 0), .inl (dA 0, 4, .inl (mn4 wn kn pn lw))), ((a 1), .inl (dA 0, 5, .inl att)), ((a 2), .inl (dA 0, 5, .inl wal)), ((a 3), .inl (dA 0, 5, .inl fin)), ((a 4), .inl (dA 0, 6, .inl knd)), ((a 5), .inl (dA 0, 6, .inl fig)), ((a 6), .inl (dA 0, 6, .inl dri)), ((a 7), .inl (dA 0, 6, .inl wak)), ((a 8), .inl (dA 0, 8, .inl pla)), ((a 21), .inl (dA 0, 16, .inl u.2.1)), ((a 25), .inl (dA 0, 5, .inl u.2.2))])) A) ([.ref m0] : List Value).toArray s 0 0 A) (F0 m 4 ls []) := by
    intro fuel
    induction fuel with
    | zero =>
      intro k v1 lk1 cm1 hk hf hv1 H locs ls hP hD hS hl
      exact absurd hf (by omega)
    | succ fuel ih_4 =>
      intro k v1 lk1 cm1 hk hf hv1 H locs ls hP hD hS hl
      refine lv_iload_n hx hb dX5_sum_4 rfl (lv_at hl 2 rfl) ?_
      refine lv_aload_n hx hb dX5_sum_5 rfl (lv_at hl 0 rfl) ?_
      refine va_get (D := (dC, dI)) (ci := 4) (v := .ref (a 0)) (C := RX5) (T := TX5) (N := 41) hx hb hts in_X5 hown hK.1 hP 0 rfl rfl 0 (by decide) (hts _ q1092) (fun _ h9 => h9) rfl dX5_sum_6 ?_
      refine lv_iconst (v := 1) hx hb dX5_sum_9 (by decide) ?_
      refine va_iald hx hb hK.1 hP 1 0 rfl rfl (vin (by decide)) dX5_sum_10 ?_
      refine lv_eqi (y := (nI kn)) rfl ?_
      refine lv_icmp_ge (tgt := 28) hx hb dX5_sum_11 (by decide) (fun c_11 => ?_) (fun c_11 => ?_)
      · skip
        have n_c_11 : kn ≤ k := (nI_leI (a := kn) (b := k) (by omega) (by omega)).mp c_11
        obtain rfl : k = kn := by omega
        refine lv_iload_n hx hb dX5_sum_28 rfl (lv_at hl 1 rfl) ?_
        refine rt_i hx hb hr hlocks dX5_sum_29 hP hD hS (Nat.le_of_ble_eq_true rfl) (Nat.le_of_ble_eq_true rfl) (v1, lk1, cm1) [0, 1, 2, 3, 4, 5, 6, 7, 8, 9, 10, 11] rfl (by decide) ?_
        exact ⟨rfl, hv1⟩
      · skip
        have n_c_11 : ¬ kn ≤ k := fun h9 => c_11 ((nI_leI (a := kn) (b := k) (by omega) (by omega)).mpr h9)
        refine lv_iload_n hx hb dX5_sum_14 rfl (lv_at hl 1 rfl) ?_
        refine lv_aload_n hx hb dX5_sum_15 rfl (lv_at hl 0 rfl) ?_
        refine lv_iload_n hx hb dX5_sum_16 rfl (lv_at hl 2 rfl) ?_
        refine rw_i (wr := []) (rw_V (rest := [.int (sp_sumc (fun kk => sp_cost ((sp_lk knd fig dri wak lw pn pla att wal fin wn) kk)) k)]) (As := [.int (nI k)]) (wc := [(m0, .inr (4, moF a v1)), ((a 0), .inl (dA 0, 4, .inl (mn4 wn kn pn lw))), ((a 1), .inl (dA 0, 5, .inl att)), ((a 2), .inl (dA 0, 5, .inl wal)), ((a 3), .inl (dA 0, 5, .inl fin)), ((a 4), .inl (dA 0, 6, .inl knd)), ((a 5), .inl (dA 0, 6, .inl fig)), ((a 6), .inl (dA 0, 6, .inl dri)), ((a 7), .inl (dA 0, 6, .inl wak)), ((a 8), .inl (dA 0, 8, .inl pla)), ((a 21), .inl (dA 0, 16, .inl lk1)), ((a 25), .inl (dA 0, 5, .inl cm1))]) ⟨hx, hb, hml, hown, hts⟩ (met_X5_dayOf _ m0 a v1 wn kn pn lw att wal fin knd fig dri wak pla lk1 cm1 k (by assumption) (by assumption) (by assumption) (by assumption) (by assumption) (by omega)) (cwV 1 hts (lw_V q1279 q1281 qs26 q46 q1282) rfl rfl rfl hdV_X5_dayOf ⟨Nat.le_of_ble_eq_true rfl, Nat.le_of_ble_eq_true rfl⟩) hK hP hD [0, 1, 2, 3, 4, 5, 6, 7, 8, 9, 10, 11] rfl (by decide) (va_recv hK.1 hP (ci := 4) (q0 := 0) rfl rfl) rfl hl.1 rfl (Nat.le_of_ble_eq_true rfl) dX5_sum_17 ⟨Nat.le_of_ble_eq_true rfl, Nat.le_of_ble_eq_true rfl⟩) hP hD hS hA [0, 1, 2, 3, 4, 5, 6, 7, 8, 9, 10, 11] [] rfl rfl (by decide) (by decide) (fun r_17 u_17 H locs h_17 hz_17 hP hD hS => ?_)
        obtain ⟨v2_17, lkd2_17, cam2_17⟩ := u_17
        have hP : va_P (dC, dI) vwCl [(m0, .inr (4, moF a v2_17)), ((a 0), .inl (dA 0, 4, .inl (mn4 wn kn pn lw))), ((a 1), .inl (dA 0, 5, .inl att)), ((a 2), .inl (dA 0, 5, .inl wal)), ((a 3), .inl (dA 0, 5, .inl fin)), ((a 4), .inl (dA 0, 6, .inl knd)), ((a 5), .inl (dA 0, 6, .inl fig)), ((a 6), .inl (dA 0, 6, .inl dri)), ((a 7), .inl (dA 0, 6, .inl wak)), ((a 8), .inl (dA 0, 8, .inl pla)), ((a 21), .inl (dA 0, 16, .inl lkd2_17)), ((a 25), .inl (dA 0, 5, .inl cam2_17))] H := hP
        have hD : va_D A [(m0, .inr (4, moF a v2_17)), ((a 0), .inl (dA 0, 4, .inl (mn4 wn kn pn lw))), ((a 1), .inl (dA 0, 5, .inl att)), ((a 2), .inl (dA 0, 5, .inl wal)), ((a 3), .inl (dA 0, 5, .inl fin)), ((a 4), .inl (dA 0, 6, .inl knd)), ((a 5), .inl (dA 0, 6, .inl fig)), ((a 6), .inl (dA 0, 6, .inl dri)), ((a 7), .inl (dA 0, 6, .inl wak)), ((a 8), .inl (dA 0, 8, .inl pla)), ((a 21), .inl (dA 0, 16, .inl lkd2_17)), ((a 25), .inl (dA 0, 5, .inl cam2_17))] := hD
        have f_17 : dyOK ((sp_lk knd fig dri wak lw pn pla att wal fin wn) k) wn v1 v2_17 lkd2_17 cam2_17 := h_17.2
        obtain rfl : r_17 = sp_cost ((sp_lk knd fig dri wak lw pn pla att wal fin wn) k) := h_17.1
        refine lv_iadd hx hb dX5_sum_20 ?_
        refine lv_istore_n (lv' := [(1, .int ((sp_sumc (fun kk => sp_cost ((sp_lk knd fig dri wak lw pn pla att wal fin wn) kk)) k) + (sp_cost ((sp_lk knd fig dri wak lw pn pla att wal fin wn) k)))), (0, .ref m0), (2, .int (nI k))]) hx hb dX5_sum_21 rfl hl (by decide) rfl (fun ls hl => ?_)
        refine lv_iinc (v := (nI (k + 1))) (lv' := [(2, .int (nI (k + 1))), (1, .int ((sp_sumc (fun kk => sp_cost ((sp_lk knd fig dri wak lw pn pla att wal fin wn) kk)) k) + (sp_cost ((sp_lk knd fig dri wak lw pn pla att wal fin wn) k)))), (0, .ref m0)]) hx hb dX5_sum_22 hl (k := 2) rfl (nI_1 k) (by decide) rfl (fun ls hl => ?_)
        refine lv_goto (tgt := 4) hx hb dX5_sum_25 (by decide) ?_
        exact ih_4 (k + 1) v2_17 lkd2_17 cam2_17 (by omega) (by omega) (vk_tr f_17.1 hv1) H locs ls hP hD hS (lv_sub hl [2, 1, 0] rfl)
  exact K_4 (kn + 1) 0 v lkd cam (by omega) (by omega) (vk_rf v) H locs ls hP hD hS (lv_sub hl [2, 1, 0] rfl)
