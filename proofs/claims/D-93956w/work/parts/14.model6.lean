/-- all but what a day writes -/
def sp_vk (v2 v : Nat → Int32) : Prop := ∀ i, ¬ (i = 19 ∨ i = 20 ∨ i = 22 ∨ i = 23 ∨ i = 24) → v2 i = v i
/-- what the model holds behind a day -/
def dyOK (x : DS) (wn : Nat) (v v2 lkd2 cam2 : Nat → Int32) : Prop := sp_vk v2 v ∧ v2 19 = dPd x ∧ v2 20 = nI (dN x) ∧ v2 22 = dLt x ∧ v2 23 = dPn x ∧ v2 24 = dId x ∧ (∀ i, i < dN x → lkd2 i = dKd x i) ∧ (∀ i, i < wn → cam2 i = dCm x i) ∧ dN x < 16
theorem dyOK_of {as f d law wk : Int32} {pn : Nat} {pla att wal fin lk1 cm1 v v1 : Nat → Int32} {wn : Nat} {X : DS} (hv : sp_vk v1 v) (hX : X = sp_dw as f d law wk pn pla att wal fin lk1 cm1 wn) (hn : dN X < 16) : sp_cost X = sp_cost (sp_day as f d law wk pn pla att wal fin wn) ∧ dyOK (sp_day as f d law wk pn pla att wal fin wn) wn v (va_up (va_up (va_up (va_up (va_up v1 19 (dPd X)) 20 (nI (dN X))) 22 (dLt X)) 23 (dPn X)) 24 (dId X)) (dKd X) (dCm X) := by
  have h := dw_ag as f d law wk pn pla att wal fin lk1 cm1 (fun _ => 0) (fun _ => 0) wn
  rw [← hX] at h
  obtain ⟨a1, a2, a3, a4, a5, a6, a7, a8, a9⟩ := h
  refine ⟨?_, ?_, a3, ?_, a5, a6, a7, fun i hi => a8 i (by rw [a4]; exact hi), a9, by show dN (sp_dw _ _ _ _ _ _ _ _ _ _ _ _ _) < 16; rw [← a4]; exact hn⟩
  · show dPd X + dPn X = dPd _ + dPn _; rw [a3, a6]; rfl
  · intro i hi
    rw [← hv i hi]
    unfold va_up
    rw [if_neg (fun e => hi (by omega)), if_neg (fun e => hi (by omega)), if_neg (fun e => hi (by omega)), if_neg (fun e => hi (by omega)), if_neg (fun e => hi (by omega))]
  · show nI (dN X) = nI (dN _); rw [a4]; rfl
theorem few_end {as : Int32} {pla : Nat → Int32} {pn w j n : Nat} (h : sp_few as pla pn w false j n) (hp : pn ≤ 8) (hw : w ≤ 5) : n < 16 := by
  have h1 := cnt_le pla j pn
  by_cases q : as = 6
  · have := h.1 q; omega
  · have := h.2 q
    simp at this
    omega
theorem hdS_X5_bestOf : yX5_bestOf.cls ≠ "java/lang/invoke/MethodHandle" ∧ yX5_bestOf.cls ≠ "java/lang/invoke/VarHandle" ∧ (parseMethodDescriptor yX5_bestOf.desc).map (fun d => d.parameters.length) = some 3 := by decide +kernel
theorem hdV_X5_bestOf : yX5_bestOf.cls = RX5 ∧ yX5_bestOf.cls ≠ "java/lang/invoke/MethodHandle" ∧ yX5_bestOf.cls ≠ "java/lang/invoke/VarHandle" ∧ (parseMethodDescriptor yX5_bestOf.desc).map (fun d => d.parameters.length) = some 3 := ⟨rfl, hdS_X5_bestOf⟩
theorem hdS_X5_dayOf_2 : yX5_dayOf_2.cls ≠ "java/lang/invoke/MethodHandle" ∧ yX5_dayOf_2.cls ≠ "java/lang/invoke/VarHandle" ∧ (parseMethodDescriptor yX5_dayOf_2.desc).map (fun d => d.parameters.length) = some 5 := by decide +kernel
theorem hdV_X5_dayOf_2 : yX5_dayOf_2.cls = RX5 ∧ yX5_dayOf_2.cls ≠ "java/lang/invoke/MethodHandle" ∧ yX5_dayOf_2.cls ≠ "java/lang/invoke/VarHandle" ∧ (parseMethodDescriptor yX5_dayOf_2.desc).map (fun d => d.parameters.length) = some 5 := ⟨rfl, hdS_X5_dayOf_2⟩
set_option maxHeartbeats 4000000 in
set_option maxRecDepth 100000 in
theorem met_X5_dayOf_2 {l : Launch} {dC : Nat → ClassId} {dI : Nat → Nat → Nat} {dA : Nat → ClassId} (sz : Nat) (m0 : Nat) (a : Nat → Nat) (v : Nat → Int32) (wn : Nat) (kn : Nat) (pn : Nat) (lw : Int32) (att : Nat → Int32) (wal : Nat → Int32) (fin : Nat → Int32) (pla : Nat → Int32) (lkd : Nat → Int32) (cam : Nat → Int32) (kd : Int32) (f : Int32) (d : Int32) (wk : Int32) (law : Int32) (hw5 : wn ≤ 5) (hp8 : pn ≤ 8) (htn : ∀ w, w < wn → (0 ≤ att w ∧ att w ≤ 719) ∧ (0 ≤ wal w ∧ wal w ≤ 59)) (hwk : 0 ≤ wk ∧ wk ≤ 719) (fr : Nat) (lc : Nat) (hfr : 4 ≤ fr) (hlc : 192 ≤ lc) (hB : kd = 4 → (7 ≤ fr ∧ 500 ≤ lc) ∧ ∀ (sz : Nat) (v lkd cam : Nat → Int32), Met l yX5_bestOf (ws_ yX5_bestOf cX5_bestOf 8 (some .int)) ({ frames := 6, cells := 0, slots := 0, locals := 400 } : Room) (RwP dC dI dA [.ref m0, .int d, .int wk, .int law] [(m0, .inr (4, moF a v)), ((a 0), .inl (dA 0, 4, .inl (mn4 wn kn pn lw))), ((a 1), .inl (dA 0, 5, .inl att)), ((a 2), .inl (dA 0, 5, .inl wal)), ((a 3), .inl (dA 0, 5, .inl fin)), ((a 8), .inl (dA 0, 8, .inl pla)), ((a 21), .inl (dA 0, 16, .inl lkd)), ((a 25), .inl (dA 0, 5, .inl cam))] sz) (va_Qi (fun (r : Int32) (u : (Nat → Int32) × (Nat → Int32) × (Nat → Int32)) => r = nI (sp_best d law wk pn pla att wal fin wn) ∧ sp_vk u.1 v) (RwB dC dI (va_A [(m0, .inr (4, moF a v)), ((a 0), .inl (dA 0, 4, .inl (mn4 wn kn pn lw))), ((a 1), .inl (dA 0, 5, .inl att)), ((a 2), .inl (dA 0, 5, .inl wal)), ((a 3), .inl (dA 0, 5, .inl fin)), ((a 8), .inl (dA 0, 8, .inl pla)), ((a 21), .inl (dA 0, 16, .inl lkd)), ((a 25), .inl (dA 0, 5, .inl cam))] sz) (fun (u : (Nat → Int32) × (Nat → Int32) × (Nat → Int32)) => [(m0, .inr (4, moF a u.1)), ((a 0), .inl (dA 0, 4, .inl (mn4 wn kn pn lw))), ((a 1), .inl (dA 0, 5, .inl att)), ((a 2), .inl (dA 0, 5, .inl wal)), ((a 3), .inl (dA 0, 5, .inl fin)), ((a 8), .inl (dA 0, 8, .inl pla)), ((a 21), .inl (dA 0, 16, .inl u.2.1)), ((a 25), .inl (dA 0, 5, .inl u.2.2))])) (va_A [(m0, .inr (4, moF a v)), ((a 0), .inl (dA 0, 4, .inl (mn4 wn kn pn lw))), ((a 1), .inl (dA 0, 5, .inl att)), ((a 2), .inl (dA 0, 5, .inl wal)), ((a 3), .inl (dA 0, 5, .inl fin)), ((a 8), .inl (dA 0, 8, .inl pla)), ((a 21), .inl (dA 0, 16, .inl lkd)), ((a 25), .inl (dA 0, 5, .inl cam))] sz)) 0 0 (va_A [(m0, .inr (4, moF a v)), ((a 0), .inl (dA 0, 4, .inl (mn4 wn kn pn lw))), ((a 1), .inl (dA 0, 5, .inl att)), ((a 2), .inl (dA 0, 5, .inl wal)), ((a 3), .inl (dA 0, 5, .inl fin)), ((a 8), .inl (dA 0, 8, .inl pla)), ((a 21), .inl (dA 0, 16, .inl lkd)), ((a 25), .inl (dA 0, 5, .inl cam))] sz)) : Met l yX5_dayOf_2 (ws_ yX5_dayOf_2 cX5_dayOf_2 16 (some .int)) ({ frames := fr, cells := 0, slots := 0, locals := lc } : Room) (RwP dC dI dA [.ref m0, .int kd, .int f, .int d, .int wk, .int law] [(m0, .inr (4, moF a v)), ((a 0), .inl (dA 0, 4, .inl (mn4 wn kn pn lw))), ((a 1), .inl (dA 0, 5, .inl att)), ((a 2), .inl (dA 0, 5, .inl wal)), ((a 3), .inl (dA 0, 5, .inl fin)), ((a 8), .inl (dA 0, 8, .inl pla)), ((a 21), .inl (dA 0, 16, .inl lkd)), ((a 25), .inl (dA 0, 5, .inl cam))] sz) (va_Qi (fun (r : Int32) (u : (Nat → Int32) × (Nat → Int32) × (Nat → Int32)) => r = sp_cost (sp_any kd f d law wk pn pla att wal fin wn) ∧ dyOK (sp_any kd f d law wk pn pla att wal fin wn) wn v u.1 u.2.1 u.2.2) (RwB dC dI (va_A [(m0, .inr (4, moF a v)), ((a 0), .inl (dA 0, 4, .inl (mn4 wn kn pn lw))), ((a 1), .inl (dA 0, 5, .inl att)), ((a 2), .inl (dA 0, 5, .inl wal)), ((a 3), .inl (dA 0, 5, .inl fin)), ((a 8), .inl (dA 0, 8, .inl pla)), ((a 21), .inl (dA 0, 16, .inl lkd)), ((a 25), .inl (dA 0, 5, .inl cam))] sz) (fun (u : (Nat → Int32) × (Nat → Int32) × (Nat → Int32)) => [(m0, .inr (4, moF a u.1)), ((a 0), .inl (dA 0, 4, .inl (mn4 wn kn pn lw))), ((a 1), .inl (dA 0, 5, .inl att)), ((a 2), .inl (dA 0, 5, .inl wal)), ((a 3), .inl (dA 0, 5, .inl fin)), ((a 8), .inl (dA 0, 8, .inl pla)), ((a 21), .inl (dA 0, 16, .inl u.2.1)), ((a 25), .inl (dA 0, 5, .inl u.2.2))])) (va_A [(m0, .inr (4, moF a v)), ((a 0), .inl (dA 0, 4, .inl (mn4 wn kn pn lw))), ((a 1), .inl (dA 0, 5, .inl att)), ((a 2), .inl (dA 0, 5, .inl wal)), ((a 3), .inl (dA 0, 5, .inl fin)), ((a 8), .inl (dA 0, 8, .inl pla)), ((a 21), .inl (dA 0, 16, .inl lkd)), ((a 25), .inl (dA 0, 5, .inl cam))] sz)) 0 0 (va_A [(m0, .inr (4, moF a v)), ((a 0), .inl (dA 0, 4, .inl (mn4 wn kn pn lw))), ((a 1), .inl (dA 0, 5, .inl att)), ((a 2), .inl (dA 0, 5, .inl wal)), ((a 3), .inl (dA 0, 5, .inl fin)), ((a 8), .inl (dA 0, 8, .inl pla)), ((a 21), .inl (dA 0, 16, .inl lkd)), ((a 25), .inl (dA 0, 5, .inl cam))] sz) := by
  refine ofRw (cc := cX5_dayOf_2) (maxL := 16) (ret := (some .int)) (Qf := fun A => va_Qi (fun (r : Int32) (u : (Nat → Int32) × (Nat → Int32) × (Nat → Int32)) => r = sp_cost (sp_any kd f d law wk pn pla att wal fin wn) ∧ dyOK (sp_any kd f d law wk pn pla att wal fin wn) wn v u.1 u.2.1 u.2.2) (RwB dC dI A (fun (u : (Nat → Int32) × (Nat → Int32) × (Nat → Int32)) => [(m0, .inr (4, moF a u.1)), ((a 0), .inl (dA 0, 4, .inl (mn4 wn kn pn lw))), ((a 1), .inl (dA 0, 5, .inl att)), ((a 2), .inl (dA 0, 5, .inl wal)), ((a 3), .inl (dA 0, 5, .inl fin)), ((a 8), .inl (dA 0, 8, .inl pla)), ((a 21), .inl (dA 0, 16, .inl u.2.1)), ((a 25), .inl (dA 0, 5, .inl u.2.2))])) A) (by decide) rfl (fun w h => List.mem_cons_of_mem _ h) (Nat.le_of_ble_eq_true rfl) ?_
  intro p e s m below meth c ls A hx hb hr hlocks hml hts hown hP hK hD hA hnm hsz hl
  have hS : va_S A s.heap s.heap [] := va_S.rf
  obtain ⟨H, hHe⟩ : ∃ H, H = s.heap := ⟨_, rfl⟩
  obtain ⟨locs, hlo⟩ : ∃ z : List Loc, z = [] := ⟨_, rfl⟩
  have hS : va_S A s.heap H locs := by rw [hHe, hlo]; exact hS
  suffices K0 : W p l e _ s m _ below meth c H locs 0 0 _ _ by rw [hHe, hlo] at K0; exact K0
  rw [← hHe] at hP
  have hown : s.vm.findClass RX5 = some m.cls := hown
  have hl : lv_has ls 16 [(0, .ref m0), (1, .int kd), (2, .int f), (3, .int d), (4, .int wk), (5, .int law)] := hl
  have K_32 : ∀ (as : Int32) (fg : Int32) (v1 : Nat → Int32) (lk1 : Nat → Int32) (cm1 : Nat → Int32), (sp_vk v1 v) → (sp_any kd f d law wk pn pla att wal fin wn = sp_day as fg d law wk pn pla att wal fin wn) → ∀ (H : Heap) (locs : List Loc) (ls : Array Slot), va_P (dC, dI) vwCl [(m0, .inr (4, moF a v1)), ((a 0), .inl (dA 0, 4, .inl (mn4 wn kn pn lw))), ((a 1), .inl (dA 0, 5, .inl att)), ((a 2), .inl (dA 0, 5, .inl wal)), ((a 3), .inl (dA 0, 5, .inl fin)), ((a 8), .inl (dA 0, 8, .inl pla)), ((a 21), .inl (dA 0, 16, .inl lk1)), ((a 25), .inl (dA 0, 5, .inl cm1))] H → va_D A [(m0, .inr (4, moF a v1)), ((a 0), .inl (dA 0, 4, .inl (mn4 wn kn pn lw))), ((a 1), .inl (dA 0, 5, .inl att)), ((a 2), .inl (dA 0, 5, .inl wal)), ((a 3), .inl (dA 0, 5, .inl fin)), ((a 8), .inl (dA 0, 8, .inl pla)), ((a 21), .inl (dA 0, 16, .inl lk1)), ((a 25), .inl (dA 0, 5, .inl cm1))] → va_S A s.heap H locs → lv_has ls 16 [(0, .ref m0), (1, .int kd), (2, .int f), (3, .int d), (4, .int wk), (5, .int law), (6, .int as), (7, .int fg)] → W p l e ({ frames := fr, cells := 0, slots := 0, locals := lc } : Room) s m ([.ref m0, .int kd, .int f, .int d, .int wk, .int law] : List Value).toArray below meth c H locs 0 0 (MQ below (va_Qi (fun (r : Int32) (u : (Nat → Int32) × (Nat → Int32) × (Nat → Int32)) => r = sp_cost (sp_any kd f d law wk pn pla att wal fin wn) ∧ dyOK (sp_any kd f d law wk pn pla att wal fin wn) wn v u.1 u.2.1 u.2.2) (RwB dC dI A (fun (u : (Nat → Int32) × (Nat → Int32) × (Nat → Int32)) => [(m0, .inr (4, moF a u.1)), ((a 0), .inl (dA 0, 4, .inl (mn4 wn kn pn lw))), ((a 1), .inl (dA 0, 5, .inl att)), ((a 2), .inl (dA 0, 5, .inl wal)), ((a 3), .inl (dA 0, 5, .inl fin)), ((a 8), .inl (dA 0, 8, .inl pla)), ((a 21), .inl (dA 0, 16, .inl u.2.1)), ((a 25), .inl (dA 0, 5, .inl u.2.2))])) A) ([.ref m0, .int kd, .int f, .int d, .int wk, .int law] : List Value).toArray s 0 0 A) (F0 m 32 ls []) := by
    intro as fg v1 lk1 cm1 hv1 has H locs ls hP hD hS hl
    refine lv_aload_n hx hb dX5_dayOf_2_32 rfl (lv_at hl 0 rfl) ?_
    refine lv_iconst (v := 0) hx hb dX5_dayOf_2_33 (by decide) ?_
    refine va_put (D := (dC, dI)) (ci := 4) (v := .int 0) (ty := .int) (C := RX5) (T := TX5) (N := 41) hx hb hts in_X5 tyX5 tyX5_ok nmX5 hown hK.1 hP hD hS 0 rfl rfl 19 (by decide) (hts _ q1111) (fun _ h9 => h9) rfl (tyX5_ok 19 (by decide)) rfl rfl (Nat.le_of_ble_eq_true rfl) dX5_dayOf_2_34 (fun H locs hP hD hS => ?_)
    have hP : va_P (dC, dI) vwCl [(m0, .inr (4, moF a (va_up v1 19 0))), ((a 0), .inl (dA 0, 4, .inl (mn4 wn kn pn lw))), ((a 1), .inl (dA 0, 5, .inl att)), ((a 2), .inl (dA 0, 5, .inl wal)), ((a 3), .inl (dA 0, 5, .inl fin)), ((a 8), .inl (dA 0, 8, .inl pla)), ((a 21), .inl (dA 0, 16, .inl lk1)), ((a 25), .inl (dA 0, 5, .inl cm1))] H := hP
    have hD : va_D A [(m0, .inr (4, moF a (va_up v1 19 0))), ((a 0), .inl (dA 0, 4, .inl (mn4 wn kn pn lw))), ((a 1), .inl (dA 0, 5, .inl att)), ((a 2), .inl (dA 0, 5, .inl wal)), ((a 3), .inl (dA 0, 5, .inl fin)), ((a 8), .inl (dA 0, 8, .inl pla)), ((a 21), .inl (dA 0, 16, .inl lk1)), ((a 25), .inl (dA 0, 5, .inl cm1))] := hD
    refine lv_aload_n hx hb dX5_dayOf_2_37 rfl (lv_at hl 0 rfl) ?_
    refine lv_iconst (v := 0) hx hb dX5_dayOf_2_38 (by decide) ?_
    refine va_put (D := (dC, dI)) (ci := 4) (v := .int 0) (ty := .int) (C := RX5) (T := TX5) (N := 41) hx hb hts in_X5 tyX5 tyX5_ok nmX5 hown hK.1 hP hD hS 0 rfl rfl 20 (by decide) (hts _ q1112) (fun _ h9 => h9) rfl (tyX5_ok 20 (by decide)) rfl rfl (Nat.le_of_ble_eq_true rfl) dX5_dayOf_2_39 (fun H locs hP hD hS => ?_)
    have hP : va_P (dC, dI) vwCl [(m0, .inr (4, moF a (va_up (va_up v1 19 0) 20 0))), ((a 0), .inl (dA 0, 4, .inl (mn4 wn kn pn lw))), ((a 1), .inl (dA 0, 5, .inl att)), ((a 2), .inl (dA 0, 5, .inl wal)), ((a 3), .inl (dA 0, 5, .inl fin)), ((a 8), .inl (dA 0, 8, .inl pla)), ((a 21), .inl (dA 0, 16, .inl lk1)), ((a 25), .inl (dA 0, 5, .inl cm1))] H := hP
    have hD : va_D A [(m0, .inr (4, moF a (va_up (va_up v1 19 0) 20 0))), ((a 0), .inl (dA 0, 4, .inl (mn4 wn kn pn lw))), ((a 1), .inl (dA 0, 5, .inl att)), ((a 2), .inl (dA 0, 5, .inl wal)), ((a 3), .inl (dA 0, 5, .inl fin)), ((a 8), .inl (dA 0, 8, .inl pla)), ((a 21), .inl (dA 0, 16, .inl lk1)), ((a 25), .inl (dA 0, 5, .inl cm1))] := hD
    refine lv_aload_n hx hb dX5_dayOf_2_42 rfl (lv_at hl 0 rfl) ?_
    refine lv_iconst (v := 0) hx hb dX5_dayOf_2_43 (by decide) ?_
    refine va_put (D := (dC, dI)) (ci := 4) (v := .int 0) (ty := .int) (C := RX5) (T := TX5) (N := 41) hx hb hts in_X5 tyX5 tyX5_ok nmX5 hown hK.1 hP hD hS 0 rfl rfl 22 (by decide) (hts _ q1114) (fun _ h9 => h9) rfl (tyX5_ok 22 (by decide)) rfl rfl (Nat.le_of_ble_eq_true rfl) dX5_dayOf_2_44 (fun H locs hP hD hS => ?_)
    have hP : va_P (dC, dI) vwCl [(m0, .inr (4, moF a (va_up (va_up (va_up v1 19 0) 20 0) 22 0))), ((a 0), .inl (dA 0, 4, .inl (mn4 wn kn pn lw))), ((a 1), .inl (dA 0, 5, .inl att)), ((a 2), .inl (dA 0, 5, .inl wal)), ((a 3), .inl (dA 0, 5, .inl fin)), ((a 8), .inl (dA 0, 8, .inl pla)), ((a 21), .inl (dA 0, 16, .inl lk1)), ((a 25), .inl (dA 0, 5, .inl cm1))] H := hP
    have hD : va_D A [(m0, .inr (4, moF a (va_up (va_up (va_up v1 19 0) 20 0) 22 0))), ((a 0), .inl (dA 0, 4, .inl (mn4 wn kn pn lw))), ((a 1), .inl (dA 0, 5, .inl att)), ((a 2), .inl (dA 0, 5, .inl wal)), ((a 3), .inl (dA 0, 5, .inl fin)), ((a 8), .inl (dA 0, 8, .inl pla)), ((a 21), .inl (dA 0, 16, .inl lk1)), ((a 25), .inl (dA 0, 5, .inl cm1))] := hD
    refine lv_aload_n hx hb dX5_dayOf_2_47 rfl (lv_at hl 0 rfl) ?_
    refine lv_iconst (v := 0) hx hb dX5_dayOf_2_48 (by decide) ?_
    refine va_put (D := (dC, dI)) (ci := 4) (v := .int 0) (ty := .int) (C := RX5) (T := TX5) (N := 41) hx hb hts in_X5 tyX5 tyX5_ok nmX5 hown hK.1 hP hD hS 0 rfl rfl 23 (by decide) (hts _ q1115) (fun _ h9 => h9) rfl (tyX5_ok 23 (by decide)) rfl rfl (Nat.le_of_ble_eq_true rfl) dX5_dayOf_2_49 (fun H locs hP hD hS => ?_)
    have hP : va_P (dC, dI) vwCl [(m0, .inr (4, moF a (va_up (va_up (va_up (va_up v1 19 0) 20 0) 22 0) 23 0))), ((a 0), .inl (dA 0, 4, .inl (mn4 wn kn pn lw))), ((a 1), .inl (dA 0, 5, .inl att)), ((a 2), .inl (dA 0, 5, .inl wal)), ((a 3), .inl (dA 0, 5, .inl fin)), ((a 8), .inl (dA 0, 8, .inl pla)), ((a 21), .inl (dA 0, 16, .inl lk1)), ((a 25), .inl (dA 0, 5, .inl cm1))] H := hP
    have hD : va_D A [(m0, .inr (4, moF a (va_up (va_up (va_up (va_up v1 19 0) 20 0) 22 0) 23 0))), ((a 0), .inl (dA 0, 4, .inl (mn4 wn kn pn lw))), ((a 1), .inl (dA 0, 5, .inl att)), ((a 2), .inl (dA 0, 5, .inl wal)), ((a 3), .inl (dA 0, 5, .inl fin)), ((a 8), .inl (dA 0, 8, .inl pla)), ((a 21), .inl (dA 0, 16, .inl lk1)), ((a 25), .inl (dA 0, 5, .inl cm1))] := hD
    refine lv_aload_n hx hb dX5_dayOf_2_52 rfl (lv_at hl 0 rfl) ?_
    refine lv_iconst (v := 0) hx hb dX5_dayOf_2_53 (by decide) ?_
    refine va_put (D := (dC, dI)) (ci := 4) (v := .int 0) (ty := .int) (C := RX5) (T := TX5) (N := 41) hx hb hts in_X5 tyX5 tyX5_ok nmX5 hown hK.1 hP hD hS 0 rfl rfl 24 (by decide) (hts _ q1116) (fun _ h9 => h9) rfl (tyX5_ok 24 (by decide)) rfl rfl (Nat.le_of_ble_eq_true rfl) dX5_dayOf_2_54 (fun H locs hP hD hS => ?_)
    have hP : va_P (dC, dI) vwCl [(m0, .inr (4, moF a (va_up (va_up (va_up (va_up (va_up v1 19 0) 20 0) 22 0) 23 0) 24 0))), ((a 0), .inl (dA 0, 4, .inl (mn4 wn kn pn lw))), ((a 1), .inl (dA 0, 5, .inl att)), ((a 2), .inl (dA 0, 5, .inl wal)), ((a 3), .inl (dA 0, 5, .inl fin)), ((a 8), .inl (dA 0, 8, .inl pla)), ((a 21), .inl (dA 0, 16, .inl lk1)), ((a 25), .inl (dA 0, 5, .inl cm1))] H := hP
    have hD : va_D A [(m0, .inr (4, moF a (va_up (va_up (va_up (va_up (va_up v1 19 0) 20 0) 22 0) 23 0) 24 0))), ((a 0), .inl (dA 0, 4, .inl (mn4 wn kn pn lw))), ((a 1), .inl (dA 0, 5, .inl att)), ((a 2), .inl (dA 0, 5, .inl wal)), ((a 3), .inl (dA 0, 5, .inl fin)), ((a 8), .inl (dA 0, 8, .inl pla)), ((a 21), .inl (dA 0, 16, .inl lk1)), ((a 25), .inl (dA 0, 5, .inl cm1))] := hD
    refine lv_iload hx hb dX5_dayOf_2_57 (lv_at hl 4 rfl) ?_
    refine lv_istore (lv' := [(8, .int wk), (0, .ref m0), (1, .int kd), (2, .int f), (3, .int d), (4, .int wk), (5, .int law), (6, .int as), (7, .int fg)]) hx hb dX5_dayOf_2_59 hl (by decide) rfl (fun ls hl => ?_)
    refine lv_iload hx hb dX5_dayOf_2_61 (lv_at hl 5 rfl) ?_
    refine lv_istore (lv' := [(9, .int wk), (8, .int wk), (0, .ref m0), (1, .int kd), (2, .int f), (3, .int d), (4, .int wk), (5, .int law), (6, .int as), (7, .int fg)]) hx hb dX5_dayOf_2_63 hl (by decide) rfl (fun ls hl => ?_)
    refine lv_iconst (v := 0) hx hb dX5_dayOf_2_65 (by decide) ?_
    refine lv_istore (lv' := [(10, .int 0), (9, .int wk), (8, .int wk), (0, .ref m0), (1, .int kd), (2, .int f), (3, .int d), (4, .int wk), (5, .int law), (6, .int as), (7, .int fg)]) hx hb dX5_dayOf_2_66 hl (by decide) rfl (fun ls hl => ?_)
    have K_68 : ∀ (fuel : Nat), ∀ (w : Nat) (X : DS), (w ≤ wn) → (wn < w + fuel) → (X = sp_dw as fg d law wk pn pla att wal fin lk1 cm1 w) → (∃ i : Nat, i ≤ 719 ∧ dFr X = nI i) → (sp_few as pla pn w false (dFr X).toNatClampNeg (dN X)) → ∀ (H : Heap) (locs : List Loc) (ls : Array Slot), va_P (dC, dI) vwCl [(m0, .inr (4, moF a (va_up (va_up (va_up (va_up (va_up v1 19 (dPd X)) 20 (nI (dN X))) 22 (dLt X)) 23 (dPn X)) 24 (dId X)))), ((a 0), .inl (dA 0, 4, .inl (mn4 wn kn pn lw))), ((a 1), .inl (dA 0, 5, .inl att)), ((a 2), .inl (dA 0, 5, .inl wal)), ((a 3), .inl (dA 0, 5, .inl fin)), ((a 8), .inl (dA 0, 8, .inl pla)), ((a 21), .inl (dA 0, 16, .inl (dKd X))), ((a 25), .inl (dA 0, 5, .inl (dCm X)))] H → va_D A [(m0, .inr (4, moF a (va_up (va_up (va_up (va_up (va_up v1 19 (dPd X)) 20 (nI (dN X))) 22 (dLt X)) 23 (dPn X)) 24 (dId X)))), ((a 0), .inl (dA 0, 4, .inl (mn4 wn kn pn lw))), ((a 1), .inl (dA 0, 5, .inl att)), ((a 2), .inl (dA 0, 5, .inl wal)), ((a 3), .inl (dA 0, 5, .inl fin)), ((a 8), .inl (dA 0, 8, .inl pla)), ((a 21), .inl (dA 0, 16, .inl (dKd X))), ((a 25), .inl (dA 0, 5, .inl (dCm X)))] → va_S A s.heap H locs → lv_has ls 16 [(0, .ref m0), (1, .int kd), (2, .int f), (3, .int d), (4, .int wk), (5, .int law), (6, .int as), (7, .int fg), (8, .int (dFr X)), (9, .int (dLk X)), (10, .int (nI w))] → W p l e ({ frames := fr, cells := 0, slots := 0, locals := lc } : Room) s m ([.ref m0, .int kd, .int f, .int d, .int wk, .int law] : List Value).toArray below meth c H locs 0 0 (MQ below (va_Qi (fun (r : Int32) (u : (Nat → Int32) × (Nat → Int32) × (Nat → Int32)) => r = sp_cost (sp_any kd f d law wk pn pla att wal fin wn) ∧ dyOK (sp_any kd f d law wk pn pla att wal fin wn) wn v u.1 u.2.1 u.2.2) (RwB dC dI A (fun (u : (Nat → Int32) × (Nat → Int32) × (Nat → Int32)) => [(m0, .inr (4, moF a u.1)), ((a 0), .inl (dA 0, 4, .inl (mn4 wn kn pn lw))), ((a 1), .inl (dA 0, 5, .inl att)), ((a 2), .inl (dA 0, 5, .inl wal)), ((a 3), .inl (dA 0, 5, .inl fin)), ((a 8), .inl (dA 0, 8, .inl pla)), ((a 21), .inl (dA 0, 16, .inl u.2.1)), ((a 25), .inl (dA 0, 5, .inl u.2.2))])) A) ([.ref m0, .int kd, .int f, .int d, .int wk, .int law] : List Value).toArray s 0 0 A) (F0 m 68 ls []) := by
      intro fuel
      induction fuel with
      | zero =>
        intro w X hw hf hX hfr9 hfew H locs ls hP hD hS hl
        exact absurd hf (by omega)
      | succ fuel ih_68 =>
        intro w X hw hf hX hfr9 hfew H locs ls hP hD hS hl
        obtain ⟨i0, hi0, hfe⟩ := hfr9
        have hfr9 : ∃ i : Nat, i ≤ 719 ∧ dFr X = nI i := ⟨i0, hi0, hfe⟩
        refine lv_iload hx hb dX5_dayOf_2_68 (lv_at hl 10 rfl) ?_
        refine lv_aload_n hx hb dX5_dayOf_2_70 rfl (lv_at hl 0 rfl) ?_
        refine va_get (D := (dC, dI)) (ci := 4) (v := .ref (a 0)) (C := RX5) (T := TX5) (N := 41) hx hb hts in_X5 hown hK.1 hP 0 rfl rfl 0 (by decide) (hts _ q1092) (fun _ h9 => h9) rfl dX5_dayOf_2_71 ?_
        refine lv_iconst (v := 0) hx hb dX5_dayOf_2_74 (by decide) ?_
        refine va_iald hx hb hK.1 hP 1 0 rfl rfl (vin (by decide)) dX5_dayOf_2_75 ?_
        refine lv_eqi (y := (nI wn)) rfl ?_
        refine lv_icmp_ge (tgt := 450) hx hb dX5_dayOf_2_76 (by decide) (fun c_76 => ?_) (fun c_76 => ?_)
        · skip
          have n_c_76 : wn ≤ w := (nI_leI (a := wn) (b := w) (by omega) (by omega)).mp c_76
          have hwn : w = wn := by omega
          rw [hwn] at hX hfew
          have hn16 : dN X < 16 := by rw [hfe] at hfew; exact few_end hfew hp8 hw5
          have hfin := dyOK_of hv1 hX hn16
          rw [← has] at hfin
          refine lv_aload_n hx hb dX5_dayOf_2_450 rfl (lv_at hl 0 rfl) ?_
          refine va_get (D := (dC, dI)) (ci := 4) (v := .int (dPd X)) (C := RX5) (T := TX5) (N := 41) hx hb hts in_X5 hown hK.1 hP 0 rfl rfl 19 (by decide) (hts _ q1111) (fun _ h9 => h9) rfl dX5_dayOf_2_451 ?_
          refine lv_aload_n hx hb dX5_dayOf_2_454 rfl (lv_at hl 0 rfl) ?_
          refine va_get (D := (dC, dI)) (ci := 4) (v := .int (dPn X)) (C := RX5) (T := TX5) (N := 41) hx hb hts in_X5 hown hK.1 hP 0 rfl rfl 23 (by decide) (hts _ q1115) (fun _ h9 => h9) rfl dX5_dayOf_2_455 ?_
          refine lv_iadd hx hb dX5_dayOf_2_458 ?_
          refine rt_i hx hb hr hlocks dX5_dayOf_2_459 hP hD hS (Nat.le_of_ble_eq_true rfl) (Nat.le_of_ble_eq_true rfl) (va_up (va_up (va_up (va_up (va_up v1 19 (dPd X)) 20 (nI (dN X))) 22 (dLt X)) 23 (dPn X)) 24 (dId X), dKd X, dCm X) [0, 1, 2, 3, 4, 5, 6, 7] rfl (by decide) ?_
          exact hfin
        · skip
          have n_c_76 : ¬ wn ≤ w := fun h9 => c_76 ((nI_leI (a := wn) (b := w) (by omega) (by omega)).mpr h9)
          refine lv_aload_n hx hb dX5_dayOf_2_79 rfl (lv_at hl 0 rfl) ?_
          refine va_get (D := (dC, dI)) (ci := 4) (v := .ref (a 25)) (C := RX5) (T := TX5) (N := 41) hx hb hts in_X5 hown hK.1 hP 0 rfl rfl 25 (by decide) (hts _ q1117) (fun _ h9 => h9) rfl dX5_dayOf_2_80 ?_
          refine lv_iload hx hb dX5_dayOf_2_83 (lv_at hl 10 rfl) ?_
          refine lv_bipush (v := (-4)) hx hb dX5_dayOf_2_85 (by decide) ?_
          refine va_iast hx hb hK.1 hP hD hS 7 0 rfl rfl (vp_in_nI (by omega) (by omega)) dX5_dayOf_2_87 (fun H locs hP hD hS => ?_)
          rw [nI_clamp (n := w) (by omega)] at hP hD
          have hP : va_P (dC, dI) vwCl [(m0, .inr (4, moF a (va_up (va_up (va_up (va_up (va_up v1 19 (dPd X)) 20 (nI (dN X))) 22 (dLt X)) 23 (dPn X)) 24 (dId X)))), ((a 0), .inl (dA 0, 4, .inl (mn4 wn kn pn lw))), ((a 1), .inl (dA 0, 5, .inl att)), ((a 2), .inl (dA 0, 5, .inl wal)), ((a 3), .inl (dA 0, 5, .inl fin)), ((a 8), .inl (dA 0, 8, .inl pla)), ((a 21), .inl (dA 0, 16, .inl (dKd X))), ((a 25), .inl (dA 0, 5, .inl (upd (dCm X) w (-4))))] H := hP
          have hD : va_D A [(m0, .inr (4, moF a (va_up (va_up (va_up (va_up (va_up v1 19 (dPd X)) 20 (nI (dN X))) 22 (dLt X)) 23 (dPn X)) 24 (dId X)))), ((a 0), .inl (dA 0, 4, .inl (mn4 wn kn pn lw))), ((a 1), .inl (dA 0, 5, .inl att)), ((a 2), .inl (dA 0, 5, .inl wal)), ((a 3), .inl (dA 0, 5, .inl fin)), ((a 8), .inl (dA 0, 8, .inl pla)), ((a 21), .inl (dA 0, 16, .inl (dKd X))), ((a 25), .inl (dA 0, 5, .inl (upd (dCm X) w (-4))))] := hD
          refine lv_aload_n hx hb dX5_dayOf_2_88 rfl (lv_at hl 0 rfl) ?_
          refine va_get (D := (dC, dI)) (ci := 4) (v := .ref (a 1)) (C := RX5) (T := TX5) (N := 41) hx hb hts in_X5 hown hK.1 hP 0 rfl rfl 1 (by decide) (hts _ q1093) (fun _ h9 => h9) rfl dX5_dayOf_2_89 ?_
          refine lv_iload hx hb dX5_dayOf_2_92 (lv_at hl 10 rfl) ?_
          refine va_iald hx hb hK.1 hP 2 0 rfl rfl (vp_in_nI (by omega) (by omega)) dX5_dayOf_2_94 ?_
          refine lv_eqi (y := (att w)) (congrArg att (nI_clamp (by omega))) ?_
          refine lv_iload hx hb dX5_dayOf_2_95 (lv_at hl 4 rfl) ?_
          refine lv_icmp_lt (tgt := 444) hx hb dX5_dayOf_2_97 (by decide) (fun c_97 => ?_) (fun c_97 => ?_)
          · skip
            refine lv_iinc (v := (nI (w + 1))) (lv' := [(10, .int (nI (w + 1))), (0, .ref m0), (1, .int kd), (2, .int f), (3, .int d), (4, .int wk), (5, .int law), (6, .int as), (7, .int fg), (8, .int (dFr X)), (9, .int (dLk X))]) hx hb dX5_dayOf_2_444 hl (k := 10) rfl (nI_1 w) (by decide) rfl (fun ls hl => ?_)
            refine lv_goto (tgt := 68) hx hb dX5_dayOf_2_447 (by decide) ?_
            exact ih_68 (w + 1) (dFr X, dLk X, dPd X, dN X, dKd X, dLt X, dPn X, dId X, upd (dCm X) w (-4)) (by omega) (by omega) (by rw [sp_dw, ← hX, sp_step, if_neg (Int32.not_le.mpr c_97)]) hfr9 (few_work hfew (Nat.le_refl _) (by rw [hfe, nI_clamp (by omega)]; omega)) H locs ls hP hD hS (lv_sub hl [1, 2, 3, 4, 5, 6, 7, 8, 9, 10, 0] rfl)
          · skip
            refine lv_iconst (v := 0) hx hb dX5_dayOf_2_100 (by decide) ?_
            refine lv_istore (lv' := [(11, .int 0), (0, .ref m0), (1, .int kd), (2, .int f), (3, .int d), (4, .int wk), (5, .int law), (6, .int as), (7, .int fg), (8, .int (dFr X)), (9, .int (dLk X)), (10, .int (nI w))]) hx hb dX5_dayOf_2_101 hl (by decide) rfl (fun ls hl => ?_)
            refine lv_aload_n hx hb dX5_dayOf_2_103 rfl (lv_at hl 1 rfl) ?_
            refine va_get (D := (dC, dI)) (ci := 4) (v := .ref (a 1)) (C := RX5) (T := TX5) (N := 41) hx hb hts in_X5 hown hK.1 hP 0 rfl rfl 1 (by decide) (hts _ q1093) (fun _ h9 => h9) rfl dX5_dayOf_2_104 ?_
            refine lv_iload hx hb dX5_dayOf_2_107 (lv_at hl 11 rfl) ?_
            refine va_iald hx hb hK.1 hP 2 0 rfl rfl (vp_in_nI (by omega) (by omega)) dX5_dayOf_2_109 ?_
            refine lv_eqi (y := (att w)) (congrArg att (nI_clamp (by omega))) ?_
            refine lv_aload_n hx hb dX5_dayOf_2_110 rfl (lv_at hl 1 rfl) ?_
            refine va_get (D := (dC, dI)) (ci := 4) (v := .ref (a 2)) (C := RX5) (T := TX5) (N := 41) hx hb hts in_X5 hown hK.1 hP 0 rfl rfl 2 (by decide) (hts _ q1094) (fun _ h9 => h9) rfl dX5_dayOf_2_111 ?_
            refine lv_iload hx hb dX5_dayOf_2_114 (lv_at hl 11 rfl) ?_
            refine va_iald hx hb hK.1 hP 3 0 rfl rfl (vp_in_nI (by omega) (by omega)) dX5_dayOf_2_116 ?_
            refine lv_eqi (y := (wal w)) (congrArg wal (nI_clamp (by omega))) ?_
            refine lv_isub hx hb dX5_dayOf_2_117 ?_
            refine lv_istore (lv' := [(12, .int ((att w) - (wal w))), (11, .int 0), (0, .ref m0), (1, .int kd), (2, .int f), (3, .int d), (4, .int wk), (5, .int law), (6, .int as), (7, .int fg), (8, .int (dFr X)), (9, .int (dLk X)), (10, .int (nI w))]) hx hb dX5_dayOf_2_118 hl (by decide) rfl (fun ls hl => ?_)
            refine lv_iload hx hb dX5_dayOf_2_120 (lv_at hl 10 rfl) ?_
            refine lv_eqi (y := (nI i0)) (hfe) ?_
            refine lv_istore (lv' := [(13, .int (nI i0)), (12, .int ((att w) - (wal w))), (11, .int 0), (0, .ref m0), (1, .int kd), (2, .int f), (3, .int d), (4, .int wk), (5, .int law), (6, .int as), (7, .int fg), (8, .int (dFr X)), (9, .int (dLk X)), (10, .int (nI w))]) hx hb dX5_dayOf_2_122 hl (by decide) rfl (fun ls hl => ?_)
            refine lv_iconst (v := 0) hx hb dX5_dayOf_2_124 (by decide) ?_
            refine lv_istore (lv' := [(14, .int 0), (13, .int (nI i0)), (12, .int ((att w) - (wal w))), (11, .int 0), (0, .ref m0), (1, .int kd), (2, .int f), (3, .int d), (4, .int wk), (5, .int law), (6, .int as), (7, .int fg), (8, .int (dFr X)), (9, .int (dLk X)), (10, .int (nI w))]) hx hb dX5_dayOf_2_125 hl (by decide) rfl (fun ls hl => ?_)
            have K_326 : ∀ (look : Int32) (j : Nat) (paid : Int32) (n : Nat) (lk2 : Nat → Int32), ((look, j, paid, n, lk2) = (sp_ml as fg d law (att w - wal w) pn pla 720 false (dLk X) (dFr X).toNatClampNeg (dPd X) (dN X) (dKd X))) → (j ≤ 719) → (sp_few as pla pn (w + 1) false j n) → ∀ (H : Heap) (locs : List Loc) (ls : Array Slot), va_P (dC, dI) vwCl [(m0, .inr (4, moF a (va_up (va_up (va_up (va_up (va_up v1 19 paid) 20 (nI n)) 22 (dLt X)) 23 (dPn X)) 24 (dId X)))), ((a 0), .inl (dA 0, 4, .inl (mn4 wn kn pn lw))), ((a 1), .inl (dA 0, 5, .inl att)), ((a 2), .inl (dA 0, 5, .inl wal)), ((a 3), .inl (dA 0, 5, .inl fin)), ((a 8), .inl (dA 0, 8, .inl pla)), ((a 21), .inl (dA 0, 16, .inl lk2)), ((a 25), .inl (dA 0, 5, .inl (upd (dCm X) w (-4))))] H → va_D A [(m0, .inr (4, moF a (va_up (va_up (va_up (va_up (va_up v1 19 paid) 20 (nI n)) 22 (dLt X)) 23 (dPn X)) 24 (dId X)))), ((a 0), .inl (dA 0, 4, .inl (mn4 wn kn pn lw))), ((a 1), .inl (dA 0, 5, .inl att)), ((a 2), .inl (dA 0, 5, .inl wal)), ((a 3), .inl (dA 0, 5, .inl fin)), ((a 8), .inl (dA 0, 8, .inl pla)), ((a 21), .inl (dA 0, 16, .inl lk2)), ((a 25), .inl (dA 0, 5, .inl (upd (dCm X) w (-4))))] → va_S A s.heap H locs → lv_has ls 16 [(0, .ref m0), (1, .int kd), (2, .int f), (3, .int d), (4, .int wk), (5, .int law), (6, .int as), (7, .int fg), (9, .int look), (10, .int (nI w)), (13, .int (nI j))] → W p l e ({ frames := fr, cells := 0, slots := 0, locals := lc } : Room) s m ([.ref m0, .int kd, .int f, .int d, .int wk, .int law] : List Value).toArray below meth c H locs 0 0 (MQ below (va_Qi (fun (r : Int32) (u : (Nat → Int32) × (Nat → Int32) × (Nat → Int32)) => r = sp_cost (sp_any kd f d law wk pn pla att wal fin wn) ∧ dyOK (sp_any kd f d law wk pn pla att wal fin wn) wn v u.1 u.2.1 u.2.2) (RwB dC dI A (fun (u : (Nat → Int32) × (Nat → Int32) × (Nat → Int32)) => [(m0, .inr (4, moF a u.1)), ((a 0), .inl (dA 0, 4, .inl (mn4 wn kn pn lw))), ((a 1), .inl (dA 0, 5, .inl att)), ((a 2), .inl (dA 0, 5, .inl wal)), ((a 3), .inl (dA 0, 5, .inl fin)), ((a 8), .inl (dA 0, 8, .inl pla)), ((a 21), .inl (dA 0, 16, .inl u.2.1)), ((a 25), .inl (dA 0, 5, .inl u.2.2))])) A) ([.ref m0, .int kd, .int f, .int d, .int wk, .int law] : List Value).toArray s 0 0 A) (F0 m 326 ls []) := by
              intro look j paid n lk2 hRES hj hfew H locs ls hP hD hS hl
              refine lv_iload hx hb dX5_dayOf_2_326 (lv_at hl 10 rfl) ?_
              refine lv_aload_n hx hb dX5_dayOf_2_328 rfl (lv_at hl 0 rfl) ?_
              refine va_get (D := (dC, dI)) (ci := 4) (v := .ref (a 2)) (C := RX5) (T := TX5) (N := 41) hx hb hts in_X5 hown hK.1 hP 0 rfl rfl 2 (by decide) (hts _ q1094) (fun _ h9 => h9) rfl dX5_dayOf_2_329 ?_
              refine lv_iload hx hb dX5_dayOf_2_332 (lv_at hl 9 rfl) ?_
              refine va_iald hx hb hK.1 hP 3 0 rfl rfl (vp_in_nI (by omega) (by omega)) dX5_dayOf_2_334 ?_
              refine lv_eqi (y := (wal w)) (congrArg wal (nI_clamp (by omega))) ?_
              refine lv_iadd hx hb dX5_dayOf_2_335 ?_
              refine lv_istore (lv' := [(15, .int ((nI j) + (wal w))), (0, .ref m0), (1, .int kd), (2, .int f), (3, .int d), (4, .int wk), (5, .int law), (6, .int as), (7, .int fg), (9, .int look), (10, .int (nI w)), (13, .int (nI j))]) hx hb dX5_dayOf_2_336 hl (by decide) rfl (fun ls hl => ?_)
              refine lv_aload_n hx hb dX5_dayOf_2_338 rfl (lv_at hl 1 rfl) ?_
              refine va_get (D := (dC, dI)) (ci := 4) (v := .ref (a 25)) (C := RX5) (T := TX5) (N := 41) hx hb hts in_X5 hown hK.1 hP 0 rfl rfl 25 (by decide) (hts _ q1117) (fun _ h9 => h9) rfl dX5_dayOf_2_339 ?_
              refine lv_iload hx hb dX5_dayOf_2_342 (lv_at hl 10 rfl) ?_
              refine lv_iload hx hb dX5_dayOf_2_344 (lv_at hl 0 rfl) ?_
              refine va_iast hx hb hK.1 hP hD hS 7 0 rfl rfl (vp_in_nI (by omega) (by omega)) dX5_dayOf_2_346 (fun H locs hP hD hS => ?_)
              rw [nI_clamp (n := w) (by omega)] at hP hD
              have hP : va_P (dC, dI) vwCl [(m0, .inr (4, moF a (va_up (va_up (va_up (va_up (va_up v1 19 paid) 20 (nI n)) 22 (dLt X)) 23 (dPn X)) 24 (dId X)))), ((a 0), .inl (dA 0, 4, .inl (mn4 wn kn pn lw))), ((a 1), .inl (dA 0, 5, .inl att)), ((a 2), .inl (dA 0, 5, .inl wal)), ((a 3), .inl (dA 0, 5, .inl fin)), ((a 8), .inl (dA 0, 8, .inl pla)), ((a 21), .inl (dA 0, 16, .inl lk2)), ((a 25), .inl (dA 0, 5, .inl (upd (upd (dCm X) w (-4)) w ((nI j) + (wal w)))))] H := hP
              have hD : va_D A [(m0, .inr (4, moF a (va_up (va_up (va_up (va_up (va_up v1 19 paid) 20 (nI n)) 22 (dLt X)) 23 (dPn X)) 24 (dId X)))), ((a 0), .inl (dA 0, 4, .inl (mn4 wn kn pn lw))), ((a 1), .inl (dA 0, 5, .inl att)), ((a 2), .inl (dA 0, 5, .inl wal)), ((a 3), .inl (dA 0, 5, .inl fin)), ((a 8), .inl (dA 0, 8, .inl pla)), ((a 21), .inl (dA 0, 16, .inl lk2)), ((a 25), .inl (dA 0, 5, .inl (upd (upd (dCm X) w (-4)) w ((nI j) + (wal w)))))] := hD
              refine lv_aload_n hx hb dX5_dayOf_2_347 rfl (lv_at hl 1 rfl) ?_
              refine lv_dup hx hb dX5_dayOf_2_348 rfl ?_
              refine va_get (D := (dC, dI)) (ci := 4) (v := .int (dLt X)) (C := RX5) (T := TX5) (N := 41) hx hb hts in_X5 hown hK.1 hP 0 rfl rfl 22 (by decide) (hts _ q1114) (fun _ h9 => h9) rfl dX5_dayOf_2_349 ?_
              refine lv_iconst (v := 0) hx hb dX5_dayOf_2_352 (by decide) ?_
              refine lv_iload hx hb dX5_dayOf_2_353 (lv_at hl 0 rfl) ?_
              refine lv_aload_n hx hb dX5_dayOf_2_355 rfl (lv_at hl 1 rfl) ?_
              refine va_get (D := (dC, dI)) (ci := 4) (v := .ref (a 1)) (C := RX5) (T := TX5) (N := 41) hx hb hts in_X5 hown hK.1 hP 0 rfl rfl 1 (by decide) (hts _ q1093) (fun _ h9 => h9) rfl dX5_dayOf_2_356 ?_
              refine lv_iload hx hb dX5_dayOf_2_359 (lv_at hl 10 rfl) ?_
              refine va_iald hx hb hK.1 hP 2 0 rfl rfl (vp_in_nI (by omega) (by omega)) dX5_dayOf_2_361 ?_
              refine lv_eqi (y := (att w)) (congrArg att (nI_clamp (by omega))) ?_
              refine lv_isub hx hb dX5_dayOf_2_362 ?_
              refine va_mmax (rest := [.int (dLt X), .ref m0]) hx hb (hml.trans hl.1.symm) hown (hts _ q1301) (hts _ q626) (hts _ q61) (hts _ q627) ((Nat.le_trans (m := 4) (Nat.le_of_ble_eq_true rfl) hfr)) ((Nat.le_trans (m := 192) (Nat.le_of_ble_eq_true rfl) hlc)) (Nat.le_of_ble_eq_true rfl) (Nat.le_of_ble_eq_true rfl) dX5_dayOf_2_363 ?_
              refine lv_eqi (y := (imax 0 (((nI j) + (wal w)) - (att w)))) rfl ?_
              refine lv_iadd hx hb dX5_dayOf_2_366 ?_
              refine va_put (D := (dC, dI)) (ci := 4) (v := .int ((dLt X) + (imax 0 (((nI j) + (wal w)) - (att w))))) (ty := .int) (C := RX5) (T := TX5) (N := 41) hx hb hts in_X5 tyX5 tyX5_ok nmX5 hown hK.1 hP hD hS 0 rfl rfl 22 (by decide) (hts _ q1114) (fun _ h9 => h9) rfl (tyX5_ok 22 (by decide)) rfl rfl (Nat.le_of_ble_eq_true rfl) dX5_dayOf_2_367 (fun H locs hP hD hS => ?_)
              have hP : va_P (dC, dI) vwCl [(m0, .inr (4, moF a (va_up (va_up (va_up (va_up (va_up v1 19 paid) 20 (nI n)) 22 ((dLt X) + (imax 0 (((nI j) + (wal w)) - (att w))))) 23 (dPn X)) 24 (dId X)))), ((a 0), .inl (dA 0, 4, .inl (mn4 wn kn pn lw))), ((a 1), .inl (dA 0, 5, .inl att)), ((a 2), .inl (dA 0, 5, .inl wal)), ((a 3), .inl (dA 0, 5, .inl fin)), ((a 8), .inl (dA 0, 8, .inl pla)), ((a 21), .inl (dA 0, 16, .inl lk2)), ((a 25), .inl (dA 0, 5, .inl (upd (upd (dCm X) w (-4)) w ((nI j) + (wal w)))))] H := hP
              have hD : va_D A [(m0, .inr (4, moF a (va_up (va_up (va_up (va_up (va_up v1 19 paid) 20 (nI n)) 22 ((dLt X) + (imax 0 (((nI j) + (wal w)) - (att w))))) 23 (dPn X)) 24 (dId X)))), ((a 0), .inl (dA 0, 4, .inl (mn4 wn kn pn lw))), ((a 1), .inl (dA 0, 5, .inl att)), ((a 2), .inl (dA 0, 5, .inl wal)), ((a 3), .inl (dA 0, 5, .inl fin)), ((a 8), .inl (dA 0, 8, .inl pla)), ((a 21), .inl (dA 0, 16, .inl lk2)), ((a 25), .inl (dA 0, 5, .inl (upd (upd (dCm X) w (-4)) w ((nI j) + (wal w)))))] := hD
              refine lv_aload_n hx hb dX5_dayOf_2_370 rfl (lv_at hl 1 rfl) ?_
              refine lv_dup hx hb dX5_dayOf_2_371 rfl ?_
              refine va_get (D := (dC, dI)) (ci := 4) (v := .int (dPn X)) (C := RX5) (T := TX5) (N := 41) hx hb hts in_X5 hown hK.1 hP 0 rfl rfl 23 (by decide) (hts _ q1115) (fun _ h9 => h9) rfl dX5_dayOf_2_372 ?_
              refine lv_iconst (v := 0) hx hb dX5_dayOf_2_375 (by decide) ?_
              refine lv_iload hx hb dX5_dayOf_2_376 (lv_at hl 0 rfl) ?_
              refine lv_aload_n hx hb dX5_dayOf_2_378 rfl (lv_at hl 1 rfl) ?_
              refine va_get (D := (dC, dI)) (ci := 4) (v := .ref (a 1)) (C := RX5) (T := TX5) (N := 41) hx hb hts in_X5 hown hK.1 hP 0 rfl rfl 1 (by decide) (hts _ q1093) (fun _ h9 => h9) rfl dX5_dayOf_2_379 ?_
              refine lv_iload hx hb dX5_dayOf_2_382 (lv_at hl 10 rfl) ?_
              refine va_iald hx hb hK.1 hP 2 0 rfl rfl (vp_in_nI (by omega) (by omega)) dX5_dayOf_2_384 ?_
              refine lv_eqi (y := (att w)) (congrArg att (nI_clamp (by omega))) ?_
              refine lv_isub hx hb dX5_dayOf_2_385 ?_
              refine va_mmax (rest := [.int (dPn X), .ref m0]) hx hb (hml.trans hl.1.symm) hown (hts _ q1301) (hts _ q626) (hts _ q61) (hts _ q627) ((Nat.le_trans (m := 4) (Nat.le_of_ble_eq_true rfl) hfr)) ((Nat.le_trans (m := 192) (Nat.le_of_ble_eq_true rfl) hlc)) (Nat.le_of_ble_eq_true rfl) (Nat.le_of_ble_eq_true rfl) dX5_dayOf_2_386 ?_
              refine lv_eqi (y := (imax 0 (((nI j) + (wal w)) - (att w)))) rfl ?_
              refine lv_aload_n hx hb dX5_dayOf_2_389 rfl (lv_at hl 1 rfl) ?_
              refine va_get (D := (dC, dI)) (ci := 4) (v := .ref (a 3)) (C := RX5) (T := TX5) (N := 41) hx hb hts in_X5 hown hK.1 hP 0 rfl rfl 3 (by decide) (hts _ q1095) (fun _ h9 => h9) rfl dX5_dayOf_2_390 ?_
              refine lv_iload hx hb dX5_dayOf_2_393 (lv_at hl 10 rfl) ?_
              refine va_iald hx hb hK.1 hP 4 0 rfl rfl (vp_in_nI (by omega) (by omega)) dX5_dayOf_2_395 ?_
              refine lv_eqi (y := (fin w)) (congrArg fin (nI_clamp (by omega))) ?_
              refine lv_imul hx hb dX5_dayOf_2_396 ?_
              refine lv_iadd hx hb dX5_dayOf_2_397 ?_
              refine va_put (D := (dC, dI)) (ci := 4) (v := .int ((dPn X) + ((imax 0 (((nI j) + (wal w)) - (att w))) * (fin w)))) (ty := .int) (C := RX5) (T := TX5) (N := 41) hx hb hts in_X5 tyX5 tyX5_ok nmX5 hown hK.1 hP hD hS 0 rfl rfl 23 (by decide) (hts _ q1115) (fun _ h9 => h9) rfl (tyX5_ok 23 (by decide)) rfl rfl (Nat.le_of_ble_eq_true rfl) dX5_dayOf_2_398 (fun H locs hP hD hS => ?_)
              have hP : va_P (dC, dI) vwCl [(m0, .inr (4, moF a (va_up (va_up (va_up (va_up (va_up v1 19 paid) 20 (nI n)) 22 ((dLt X) + (imax 0 (((nI j) + (wal w)) - (att w))))) 23 ((dPn X) + ((imax 0 (((nI j) + (wal w)) - (att w))) * (fin w)))) 24 (dId X)))), ((a 0), .inl (dA 0, 4, .inl (mn4 wn kn pn lw))), ((a 1), .inl (dA 0, 5, .inl att)), ((a 2), .inl (dA 0, 5, .inl wal)), ((a 3), .inl (dA 0, 5, .inl fin)), ((a 8), .inl (dA 0, 8, .inl pla)), ((a 21), .inl (dA 0, 16, .inl lk2)), ((a 25), .inl (dA 0, 5, .inl (upd (upd (dCm X) w (-4)) w ((nI j) + (wal w)))))] H := hP
              have hD : va_D A [(m0, .inr (4, moF a (va_up (va_up (va_up (va_up (va_up v1 19 paid) 20 (nI n)) 22 ((dLt X) + (imax 0 (((nI j) + (wal w)) - (att w))))) 23 ((dPn X) + ((imax 0 (((nI j) + (wal w)) - (att w))) * (fin w)))) 24 (dId X)))), ((a 0), .inl (dA 0, 4, .inl (mn4 wn kn pn lw))), ((a 1), .inl (dA 0, 5, .inl att)), ((a 2), .inl (dA 0, 5, .inl wal)), ((a 3), .inl (dA 0, 5, .inl fin)), ((a 8), .inl (dA 0, 8, .inl pla)), ((a 21), .inl (dA 0, 16, .inl lk2)), ((a 25), .inl (dA 0, 5, .inl (upd (upd (dCm X) w (-4)) w ((nI j) + (wal w)))))] := hD
              refine lv_aload_n hx hb dX5_dayOf_2_401 rfl (lv_at hl 1 rfl) ?_
              refine lv_dup hx hb dX5_dayOf_2_402 rfl ?_
              refine va_get (D := (dC, dI)) (ci := 4) (v := .int (dId X)) (C := RX5) (T := TX5) (N := 41) hx hb hts in_X5 hown hK.1 hP 0 rfl rfl 24 (by decide) (hts _ q1116) (fun _ h9 => h9) rfl dX5_dayOf_2_403 ?_
              refine lv_iconst (v := 0) hx hb dX5_dayOf_2_406 (by decide) ?_
              refine lv_aload_n hx hb dX5_dayOf_2_407 rfl (lv_at hl 1 rfl) ?_
              refine va_get (D := (dC, dI)) (ci := 4) (v := .ref (a 1)) (C := RX5) (T := TX5) (N := 41) hx hb hts in_X5 hown hK.1 hP 0 rfl rfl 1 (by decide) (hts _ q1093) (fun _ h9 => h9) rfl dX5_dayOf_2_408 ?_
              refine lv_iload hx hb dX5_dayOf_2_411 (lv_at hl 10 rfl) ?_
              refine va_iald hx hb hK.1 hP 2 0 rfl rfl (vp_in_nI (by omega) (by omega)) dX5_dayOf_2_413 ?_
              refine lv_eqi (y := (att w)) (congrArg att (nI_clamp (by omega))) ?_
              refine lv_iload hx hb dX5_dayOf_2_414 (lv_at hl 0 rfl) ?_
              refine lv_isub hx hb dX5_dayOf_2_416 ?_
              refine va_mmax (rest := [.int (dId X), .ref m0]) hx hb (hml.trans hl.1.symm) hown (hts _ q1301) (hts _ q626) (hts _ q61) (hts _ q627) ((Nat.le_trans (m := 4) (Nat.le_of_ble_eq_true rfl) hfr)) ((Nat.le_trans (m := 192) (Nat.le_of_ble_eq_true rfl) hlc)) (Nat.le_of_ble_eq_true rfl) (Nat.le_of_ble_eq_true rfl) dX5_dayOf_2_417 ?_
              refine lv_eqi (y := (imax 0 ((att w) - ((nI j) + (wal w))))) rfl ?_
              refine lv_iadd hx hb dX5_dayOf_2_420 ?_
              refine va_put (D := (dC, dI)) (ci := 4) (v := .int ((dId X) + (imax 0 ((att w) - ((nI j) + (wal w)))))) (ty := .int) (C := RX5) (T := TX5) (N := 41) hx hb hts in_X5 tyX5 tyX5_ok nmX5 hown hK.1 hP hD hS 0 rfl rfl 24 (by decide) (hts _ q1116) (fun _ h9 => h9) rfl (tyX5_ok 24 (by decide)) rfl rfl (Nat.le_of_ble_eq_true rfl) dX5_dayOf_2_421 (fun H locs hP hD hS => ?_)
              have hP : va_P (dC, dI) vwCl [(m0, .inr (4, moF a (va_up (va_up (va_up (va_up (va_up v1 19 paid) 20 (nI n)) 22 ((dLt X) + (imax 0 (((nI j) + (wal w)) - (att w))))) 23 ((dPn X) + ((imax 0 (((nI j) + (wal w)) - (att w))) * (fin w)))) 24 ((dId X) + (imax 0 ((att w) - ((nI j) + (wal w)))))))), ((a 0), .inl (dA 0, 4, .inl (mn4 wn kn pn lw))), ((a 1), .inl (dA 0, 5, .inl att)), ((a 2), .inl (dA 0, 5, .inl wal)), ((a 3), .inl (dA 0, 5, .inl fin)), ((a 8), .inl (dA 0, 8, .inl pla)), ((a 21), .inl (dA 0, 16, .inl lk2)), ((a 25), .inl (dA 0, 5, .inl (upd (upd (dCm X) w (-4)) w ((nI j) + (wal w)))))] H := hP
              have hD : va_D A [(m0, .inr (4, moF a (va_up (va_up (va_up (va_up (va_up v1 19 paid) 20 (nI n)) 22 ((dLt X) + (imax 0 (((nI j) + (wal w)) - (att w))))) 23 ((dPn X) + ((imax 0 (((nI j) + (wal w)) - (att w))) * (fin w)))) 24 ((dId X) + (imax 0 ((att w) - ((nI j) + (wal w)))))))), ((a 0), .inl (dA 0, 4, .inl (mn4 wn kn pn lw))), ((a 1), .inl (dA 0, 5, .inl att)), ((a 2), .inl (dA 0, 5, .inl wal)), ((a 3), .inl (dA 0, 5, .inl fin)), ((a 8), .inl (dA 0, 8, .inl pla)), ((a 21), .inl (dA 0, 16, .inl lk2)), ((a 25), .inl (dA 0, 5, .inl (upd (upd (dCm X) w (-4)) w ((nI j) + (wal w)))))] := hD
              refine lv_sipush (v := 719) hx hb dX5_dayOf_2_424 (by decide) ?_
              refine lv_iload hx hb dX5_dayOf_2_427 (lv_at hl 0 rfl) ?_
              refine lv_aload_n hx hb dX5_dayOf_2_429 rfl (lv_at hl 1 rfl) ?_
              refine va_get (D := (dC, dI)) (ci := 4) (v := .ref (a 1)) (C := RX5) (T := TX5) (N := 41) hx hb hts in_X5 hown hK.1 hP 0 rfl rfl 1 (by decide) (hts _ q1093) (fun _ h9 => h9) rfl dX5_dayOf_2_430 ?_
              refine lv_iload hx hb dX5_dayOf_2_433 (lv_at hl 10 rfl) ?_
              refine va_iald hx hb hK.1 hP 2 0 rfl rfl (vp_in_nI (by omega) (by omega)) dX5_dayOf_2_435 ?_
              refine lv_eqi (y := (att w)) (congrArg att (nI_clamp (by omega))) ?_
              refine va_mmax (rest := [.int 719]) hx hb (hml.trans hl.1.symm) hown (hts _ q1301) (hts _ q626) (hts _ q61) (hts _ q627) ((Nat.le_trans (m := 4) (Nat.le_of_ble_eq_true rfl) hfr)) ((Nat.le_trans (m := 192) (Nat.le_of_ble_eq_true rfl) hlc)) (Nat.le_of_ble_eq_true rfl) (Nat.le_of_ble_eq_true rfl) dX5_dayOf_2_436 ?_
              refine lv_eqi (y := (imax ((nI j) + (wal w)) (att w))) rfl ?_
              refine va_mmin (rest := []) hx hb (hml.trans hl.1.symm) hown (hts _ q1302) (hts _ q641) (hts _ q61) (hts _ q642) ((Nat.le_trans (m := 4) (Nat.le_of_ble_eq_true rfl) hfr)) ((Nat.le_trans (m := 192) (Nat.le_of_ble_eq_true rfl) hlc)) (Nat.le_of_ble_eq_true rfl) (Nat.le_of_ble_eq_true rfl) dX5_dayOf_2_439 ?_
              refine lv_eqi (y := (imin 719 (imax ((nI j) + (wal w)) (att w)))) rfl ?_
              refine lv_istore (lv' := [(8, .int (imin 719 (imax ((nI j) + (wal w)) (att w)))), (15, .int ((nI j) + (wal w))), (0, .ref m0), (1, .int kd), (2, .int f), (3, .int d), (4, .int wk), (5, .int law), (6, .int as), (7, .int fg), (9, .int look), (10, .int (nI w)), (13, .int (nI j))]) hx hb dX5_dayOf_2_442 hl (by decide) rfl (fun ls hl => ?_)
              refine lv_iinc (v := (nI (w + 1))) (lv' := [(10, .int (nI (w + 1))), (8, .int (imin 719 (imax ((nI j) + (wal w)) (att w)))), (15, .int ((nI j) + (wal w))), (0, .ref m0), (1, .int kd), (2, .int f), (3, .int d), (4, .int wk), (5, .int law), (6, .int as), (7, .int fg), (9, .int look), (13, .int (nI j))]) hx hb dX5_dayOf_2_444 hl (k := 11) rfl (nI_1 w) (by decide) rfl (fun ls hl => ?_)
              refine lv_goto (tgt := 68) hx hb dX5_dayOf_2_447 (by decide) ?_
              exact ih_68 (w + 1) (sp_came att wal fin w X (look, j, paid, n, lk2)) (by omega) (by omega) (by rw [sp_dw, ← hX, sp_step, if_pos (Int32.not_lt.mp c_97), ← hRES]) (by obtain ⟨i, h1, h2, h3⟩ := im_free hj (htn w (by omega)).2 (htn w (by omega)).1; exact ⟨i, h2, h3⟩) (by obtain ⟨i, h1, h2, h3⟩ := im_free hj (htn w (by omega)).2 (htn w (by omega)).1; show sp_few as pla pn (w + 1) false (imin 719 (imax (nI j + wal w) (att w))).toNatClampNeg n; rw [h3, nI_clamp (by omega)]; exact few_next hfew h1 (by omega)) H locs ls hP hD hS (lv_sub hl [3, 4, 5, 6, 7, 8, 9, 10, 1, 11, 0] rfl)
            have K_127 : ∀ (fuel2 : Nat), ∀ (x11 : Int32) (look : Int32) (j : Nat) (paid : Int32) (n : Nat) (lk2 : Nat → Int32) (ob : Bool), (x11 = bI (ob = true)) → (j ≤ 719) → (719 < j + fuel2) → (i0 ≤ j) → (sp_few as pla pn w ob j n) → (sp_ml as fg d law (att w - wal w) pn pla fuel2 ob look j paid n lk2 = (sp_ml as fg d law (att w - wal w) pn pla 720 false (dLk X) (dFr X).toNatClampNeg (dPd X) (dN X) (dKd X))) → ∀ (H : Heap) (locs : List Loc) (ls : Array Slot), va_P (dC, dI) vwCl [(m0, .inr (4, moF a (va_up (va_up (va_up (va_up (va_up v1 19 paid) 20 (nI n)) 22 (dLt X)) 23 (dPn X)) 24 (dId X)))), ((a 0), .inl (dA 0, 4, .inl (mn4 wn kn pn lw))), ((a 1), .inl (dA 0, 5, .inl att)), ((a 2), .inl (dA 0, 5, .inl wal)), ((a 3), .inl (dA 0, 5, .inl fin)), ((a 8), .inl (dA 0, 8, .inl pla)), ((a 21), .inl (dA 0, 16, .inl lk2)), ((a 25), .inl (dA 0, 5, .inl (upd (dCm X) w (-4))))] H → va_D A [(m0, .inr (4, moF a (va_up (va_up (va_up (va_up (va_up v1 19 paid) 20 (nI n)) 22 (dLt X)) 23 (dPn X)) 24 (dId X)))), ((a 0), .inl (dA 0, 4, .inl (mn4 wn kn pn lw))), ((a 1), .inl (dA 0, 5, .inl att)), ((a 2), .inl (dA 0, 5, .inl wal)), ((a 3), .inl (dA 0, 5, .inl fin)), ((a 8), .inl (dA 0, 8, .inl pla)), ((a 21), .inl (dA 0, 16, .inl lk2)), ((a 25), .inl (dA 0, 5, .inl (upd (dCm X) w (-4))))] → va_S A s.heap H locs → lv_has ls 16 [(0, .ref m0), (1, .int kd), (2, .int f), (3, .int d), (4, .int wk), (5, .int law), (6, .int as), (7, .int fg), (9, .int look), (10, .int (nI w)), (11, .int x11), (12, .int ((att w) - (wal w))), (13, .int (nI j)), (14, .int 0)] → W p l e ({ frames := fr, cells := 0, slots := 0, locals := lc } : Room) s m ([.ref m0, .int kd, .int f, .int d, .int wk, .int law] : List Value).toArray below meth c H locs 0 0 (MQ below (va_Qi (fun (r : Int32) (u : (Nat → Int32) × (Nat → Int32) × (Nat → Int32)) => r = sp_cost (sp_any kd f d law wk pn pla att wal fin wn) ∧ dyOK (sp_any kd f d law wk pn pla att wal fin wn) wn v u.1 u.2.1 u.2.2) (RwB dC dI A (fun (u : (Nat → Int32) × (Nat → Int32) × (Nat → Int32)) => [(m0, .inr (4, moF a u.1)), ((a 0), .inl (dA 0, 4, .inl (mn4 wn kn pn lw))), ((a 1), .inl (dA 0, 5, .inl att)), ((a 2), .inl (dA 0, 5, .inl wal)), ((a 3), .inl (dA 0, 5, .inl fin)), ((a 8), .inl (dA 0, 8, .inl pla)), ((a 21), .inl (dA 0, 16, .inl u.2.1)), ((a 25), .inl (dA 0, 5, .inl u.2.2))])) A) ([.ref m0, .int kd, .int f, .int d, .int wk, .int law] : List Value).toArray s 0 0 A) (F0 m 127 ls []) := by
              intro fuel2
              induction fuel2 with
              | zero =>
                intro x11 look j paid n lk2 ob hx11 hj hf2 hij hfew hv H locs ls hP hD hS hl
                exact absurd hf2 (by omega)
              | succ fuel2 ih_127 =>
                intro x11 look j paid n lk2 ob hx11 hj hf2 hij hfew hv H locs ls hP hD hS hl
                refine lv_iload hx hb dX5_dayOf_2_127 (lv_at hl 13 rfl) ?_
                refine lv_if_ne (tgt := 326) hx hb dX5_dayOf_2_129 (by decide) (fun c_129 => ?_) (fun c_129 => ?_)
                · skip
                  exact absurd c_129 (by decide)
                · skip
                  have K_218 : ∀ (x15 : Int32), (x15 = bI (sp_would as fg d law (att w - wal w) look (nI j) ob pn pla)) → ∀ (H : Heap) (locs : List Loc) (ls : Array Slot), va_P (dC, dI) vwCl [(m0, .inr (4, moF a (va_up (va_up (va_up (va_up (va_up v1 19 paid) 20 (nI n)) 22 (dLt X)) 23 (dPn X)) 24 (dId X)))), ((a 0), .inl (dA 0, 4, .inl (mn4 wn kn pn lw))), ((a 1), .inl (dA 0, 5, .inl att)), ((a 2), .inl (dA 0, 5, .inl wal)), ((a 3), .inl (dA 0, 5, .inl fin)), ((a 8), .inl (dA 0, 8, .inl pla)), ((a 21), .inl (dA 0, 16, .inl lk2)), ((a 25), .inl (dA 0, 5, .inl (upd (dCm X) w (-4))))] H → va_D A [(m0, .inr (4, moF a (va_up (va_up (va_up (va_up (va_up v1 19 paid) 20 (nI n)) 22 (dLt X)) 23 (dPn X)) 24 (dId X)))), ((a 0), .inl (dA 0, 4, .inl (mn4 wn kn pn lw))), ((a 1), .inl (dA 0, 5, .inl att)), ((a 2), .inl (dA 0, 5, .inl wal)), ((a 3), .inl (dA 0, 5, .inl fin)), ((a 8), .inl (dA 0, 8, .inl pla)), ((a 21), .inl (dA 0, 16, .inl lk2)), ((a 25), .inl (dA 0, 5, .inl (upd (dCm X) w (-4))))] → va_S A s.heap H locs → lv_has ls 16 [(0, .ref m0), (1, .int kd), (2, .int f), (3, .int d), (4, .int wk), (5, .int law), (6, .int as), (7, .int fg), (9, .int look), (10, .int (nI w)), (11, .int x11), (12, .int ((att w) - (wal w))), (13, .int (nI j)), (14, .int 0), (15, .int x15)] → W p l e ({ frames := fr, cells := 0, slots := 0, locals := lc } : Room) s m ([.ref m0, .int kd, .int f, .int d, .int wk, .int law] : List Value).toArray below meth c H locs 0 0 (MQ below (va_Qi (fun (r : Int32) (u : (Nat → Int32) × (Nat → Int32) × (Nat → Int32)) => r = sp_cost (sp_any kd f d law wk pn pla att wal fin wn) ∧ dyOK (sp_any kd f d law wk pn pla att wal fin wn) wn v u.1 u.2.1 u.2.2) (RwB dC dI A (fun (u : (Nat → Int32) × (Nat → Int32) × (Nat → Int32)) => [(m0, .inr (4, moF a u.1)), ((a 0), .inl (dA 0, 4, .inl (mn4 wn kn pn lw))), ((a 1), .inl (dA 0, 5, .inl att)), ((a 2), .inl (dA 0, 5, .inl wal)), ((a 3), .inl (dA 0, 5, .inl fin)), ((a 8), .inl (dA 0, 8, .inl pla)), ((a 21), .inl (dA 0, 16, .inl u.2.1)), ((a 25), .inl (dA 0, 5, .inl u.2.2))])) A) ([.ref m0, .int kd, .int f, .int d, .int wk, .int law] : List Value).toArray s 0 0 A) (F0 m 218 ls []) := by
                    intro x15 hx15 H locs ls hP hD hS hl
                    refine lv_iload hx hb dX5_dayOf_2_218 (lv_at hl 14 rfl) ?_
                    refine lv_if_eq (tgt := 272) hx hb dX5_dayOf_2_220 (by decide) (fun c_220 => ?_) (fun c_220 => ?_)
                    · skip
                      have hwd := bI_eq0 hx15 c_220
                      refine lv_iload hx hb dX5_dayOf_2_272 (lv_at hl 12 rfl) ?_
                      refine lv_sipush (v := 719) hx hb dX5_dayOf_2_274 (by decide) ?_
                      refine lv_icmp_eq (tgt := 301) hx hb dX5_dayOf_2_277 (by decide) (fun c_277 => ?_) (fun c_277 => ?_)
                      · skip
                        have n_c_277 : j = 719 := (nI_eq (a := j) (b := 719) (by omega) (by omega)).mp c_277
                        have hg : sp_goes as fg d (att w - wal w) look j := Or.inl n_c_277
                        refine lv_iconst (v := 1) hx hb dX5_dayOf_2_301 (by decide) ?_
                        refine lv_goto (tgt := 306) hx hb dX5_dayOf_2_302 (by decide) ?_
                        refine lv_istore (lv' := [(14, .int 1), (0, .ref m0), (1, .int kd), (2, .int f), (3, .int d), (4, .int wk), (5, .int law), (6, .int as), (7, .int fg), (9, .int look), (10, .int (nI w)), (11, .int x11), (12, .int ((att w) - (wal w))), (13, .int (nI j)), (15, .int x15)]) hx hb dX5_dayOf_2_306 hl (by decide) rfl (fun ls hl => ?_)
                        refine lv_iload hx hb dX5_dayOf_2_308 (lv_at hl 13 rfl) ?_
                        refine lv_iload hx hb dX5_dayOf_2_310 (lv_at hl 0 rfl) ?_
                        refine lv_if_eq (tgt := 319) hx hb dX5_dayOf_2_312 (by decide) (fun c_312 => ?_) (fun c_312 => ?_)
                        · skip
                          exact absurd c_312 (by decide)
                        · skip
                          refine lv_iconst (v := 0) hx hb dX5_dayOf_2_315 (by decide) ?_
                          refine lv_goto (tgt := 320) hx hb dX5_dayOf_2_316 (by decide) ?_
                          refine lv_iadd hx hb dX5_dayOf_2_320 ?_
                          refine lv_eqi (y := (nI j)) (by rw [show (0 : Int32) = nI 0 from rfl, nI_add]; rfl) ?_
                          refine lv_istore (lv' := [(13, .int (nI j)), (14, .int 1), (0, .ref m0), (1, .int kd), (2, .int f), (3, .int d), (4, .int wk), (5, .int law), (6, .int as), (7, .int fg), (9, .int look), (10, .int (nI w)), (11, .int x11), (12, .int ((att w) - (wal w))), (15, .int x15)]) hx hb dX5_dayOf_2_321 hl (by decide) rfl (fun ls hl => ?_)
                          refine lv_goto (tgt := 127) hx hb dX5_dayOf_2_323 (by decide) ?_
                          refine lv_iload hx hb dX5_dayOf_2_127 (lv_at hl 1 rfl) ?_
                          refine lv_if_ne (tgt := 326) hx hb dX5_dayOf_2_129 (by decide) (fun c_129_2 => ?_) (fun c_129_2 => ?_)
                          · skip
                            exact K_326 look j paid n lk2 (by rw [← hv, sp_ml, if_neg hwd, if_pos hg]) hj (few_work hfew (Nat.le_refl _) (by omega)) H locs ls hP hD hS (lv_sub hl [2, 3, 4, 5, 6, 7, 8, 9, 10, 11, 0] rfl)
                          · skip
                            exact absurd c_129_2 (by decide)
                      · skip
                        have n_c_277 : ¬ j = 719 := fun h9 => c_277 ((nI_eq (a := j) (b := 719) (by omega) (by omega)).mpr h9)
                        refine lv_iload_n hx hb dX5_dayOf_2_280 rfl (lv_at hl 3 rfl) ?_
                        refine lv_iload hx hb dX5_dayOf_2_281 (lv_at hl 8 rfl) ?_
                        refine lv_iload hx hb dX5_dayOf_2_283 (lv_at hl 12 rfl) ?_
                        refine ro_S (rest := []) (As := [.int d, .int look, .int (nI j)]) (wc := []) ⟨hx, hb, hml, hown, hts⟩ (met_X5_thought d look (nI j)) (va_cwS 3 hts (lw_S q1272 q1273 q46 q1274) rfl rfl rfl hdS_X5_thought ⟨(Nat.le_trans (m := 4) (Nat.le_of_ble_eq_true rfl) hfr), (Nat.le_trans (m := 192) (Nat.le_of_ble_eq_true rfl) hlc)⟩) hK hP [] rfl rfl hl.1 rfl (Nat.le_of_ble_eq_true rfl) dX5_dayOf_2_285 ⟨Nat.le_of_ble_eq_true rfl, Nat.le_of_ble_eq_true rfl⟩ (fun r_285 h_285 => ?_)
                        obtain rfl : r_285 = sp_th d look (nI j) := h_285
                        refine lv_iload hx hb dX5_dayOf_2_288 (lv_at hl 11 rfl) ?_
                        refine lv_iload hx hb dX5_dayOf_2_290 (lv_at hl 6 rfl) ?_
                        refine lv_iload hx hb dX5_dayOf_2_292 (lv_at hl 7 rfl) ?_
                        refine ro_S (rest := [.int ((att w) - (wal w)), .int (sp_th d look (nI j))]) (As := [.int as, .int fg]) (wc := []) ⟨hx, hb, hml, hown, hts⟩ (met_X5_early as fg) (va_cwS 2 hts (lw_S q1260 q1261 q46 q1262) rfl rfl rfl hdS_X5_early ⟨(Nat.le_trans (m := 4) (Nat.le_of_ble_eq_true rfl) hfr), (Nat.le_trans (m := 192) (Nat.le_of_ble_eq_true rfl) hlc)⟩) hK hP [] rfl rfl hl.1 rfl (Nat.le_of_ble_eq_true rfl) dX5_dayOf_2_294 ⟨Nat.le_of_ble_eq_true rfl, Nat.le_of_ble_eq_true rfl⟩ (fun r_294 h_294 => ?_)
                        obtain rfl : r_294 = sp_early as fg := h_294
                        refine lv_isub hx hb dX5_dayOf_2_297 ?_
                        refine lv_icmp_lt (tgt := 305) hx hb dX5_dayOf_2_298 (by decide) (fun c_298 => ?_) (fun c_298 => ?_)
                        · skip
                          have hg : ¬ sp_goes as fg d (att w - wal w) look j := fun h9 => h9.elim n_c_277 (fun h8 => absurd c_298 (Int32.not_lt.mpr h8))
                          refine lv_iconst (v := 0) hx hb dX5_dayOf_2_305 (by decide) ?_
                          refine lv_istore (lv' := [(14, .int 0), (0, .ref m0), (1, .int kd), (2, .int f), (3, .int d), (4, .int wk), (5, .int law), (6, .int as), (7, .int fg), (9, .int look), (10, .int (nI w)), (11, .int x11), (12, .int ((att w) - (wal w))), (13, .int (nI j)), (15, .int x15)]) hx hb dX5_dayOf_2_306 hl (by decide) rfl (fun ls hl => ?_)
                          refine lv_iload hx hb dX5_dayOf_2_308 (lv_at hl 13 rfl) ?_
                          refine lv_iload hx hb dX5_dayOf_2_310 (lv_at hl 0 rfl) ?_
                          refine lv_if_eq (tgt := 319) hx hb dX5_dayOf_2_312 (by decide) (fun c_312_2 => ?_) (fun c_312_2 => ?_)
                          · skip
                            refine lv_iconst (v := 1) hx hb dX5_dayOf_2_319 (by decide) ?_
                            refine lv_iadd hx hb dX5_dayOf_2_320 ?_
                            refine lv_eqi (y := (nI (j + 1))) (nI_1 j) ?_
                            refine lv_istore (lv' := [(13, .int (nI (j + 1))), (14, .int 0), (0, .ref m0), (1, .int kd), (2, .int f), (3, .int d), (4, .int wk), (5, .int law), (6, .int as), (7, .int fg), (9, .int look), (10, .int (nI w)), (11, .int x11), (12, .int ((att w) - (wal w))), (15, .int x15)]) hx hb dX5_dayOf_2_321 hl (by decide) rfl (fun ls hl => ?_)
                            refine lv_goto (tgt := 127) hx hb dX5_dayOf_2_323 (by decide) ?_
                            exact ih_127 x11 look (j + 1) paid n lk2 ob hx11 (by omega) (by omega) (by omega) (few_next hfew (by omega) (by omega)) (by rw [← hv, sp_ml, if_neg hwd, if_neg hg]) H locs ls hP hD hS (lv_sub hl [2, 3, 4, 5, 6, 7, 8, 9, 10, 11, 12, 13, 0, 1] rfl)
                          · skip
                            exact absurd c_312_2 (by decide)
                        · skip
                          have hg : sp_goes as fg d (att w - wal w) look j := Or.inr (Int32.not_lt.mp c_298)
                          refine lv_iconst (v := 1) hx hb dX5_dayOf_2_301 (by decide) ?_
                          refine lv_goto (tgt := 306) hx hb dX5_dayOf_2_302 (by decide) ?_
                          refine lv_istore (lv' := [(14, .int 1), (0, .ref m0), (1, .int kd), (2, .int f), (3, .int d), (4, .int wk), (5, .int law), (6, .int as), (7, .int fg), (9, .int look), (10, .int (nI w)), (11, .int x11), (12, .int ((att w) - (wal w))), (13, .int (nI j)), (15, .int x15)]) hx hb dX5_dayOf_2_306 hl (by decide) rfl (fun ls hl => ?_)
                          refine lv_iload hx hb dX5_dayOf_2_308 (lv_at hl 13 rfl) ?_
                          refine lv_iload hx hb dX5_dayOf_2_310 (lv_at hl 0 rfl) ?_
                          refine lv_if_eq (tgt := 319) hx hb dX5_dayOf_2_312 (by decide) (fun c_312_3 => ?_) (fun c_312_3 => ?_)
                          · skip
                            exact absurd c_312_3 (by decide)
                          · skip
                            refine lv_iconst (v := 0) hx hb dX5_dayOf_2_315 (by decide) ?_
                            refine lv_goto (tgt := 320) hx hb dX5_dayOf_2_316 (by decide) ?_
                            refine lv_iadd hx hb dX5_dayOf_2_320 ?_
                            refine lv_eqi (y := (nI j)) (by rw [show (0 : Int32) = nI 0 from rfl, nI_add]; rfl) ?_
                            refine lv_istore (lv' := [(13, .int (nI j)), (14, .int 1), (0, .ref m0), (1, .int kd), (2, .int f), (3, .int d), (4, .int wk), (5, .int law), (6, .int as), (7, .int fg), (9, .int look), (10, .int (nI w)), (11, .int x11), (12, .int ((att w) - (wal w))), (15, .int x15)]) hx hb dX5_dayOf_2_321 hl (by decide) rfl (fun ls hl => ?_)
                            refine lv_goto (tgt := 127) hx hb dX5_dayOf_2_323 (by decide) ?_
                            refine lv_iload hx hb dX5_dayOf_2_127 (lv_at hl 1 rfl) ?_
                            refine lv_if_ne (tgt := 326) hx hb dX5_dayOf_2_129 (by decide) (fun c_129_3 => ?_) (fun c_129_3 => ?_)
                            · skip
                              exact K_326 look j paid n lk2 (by rw [← hv, sp_ml, if_neg hwd, if_pos hg]) hj (few_work hfew (Nat.le_refl _) (by omega)) H locs ls hP hD hS (lv_sub hl [2, 3, 4, 5, 6, 7, 8, 9, 10, 11, 0] rfl)
                            · skip
                              exact absurd c_129_3 (by decide)
                    · skip
                      have hwd := bI_ne0 hx15 c_220
                      have hn16 := few_lt hfew hp8 (by omega)
                      refine lv_iconst (v := 1) hx hb dX5_dayOf_2_223 (by decide) ?_
                      refine lv_istore (lv' := [(11, .int 1), (0, .ref m0), (1, .int kd), (2, .int f), (3, .int d), (4, .int wk), (5, .int law), (6, .int as), (7, .int fg), (9, .int look), (10, .int (nI w)), (12, .int ((att w) - (wal w))), (13, .int (nI j)), (14, .int 0), (15, .int x15)]) hx hb dX5_dayOf_2_224 hl (by decide) rfl (fun ls hl => ?_)
                      refine lv_iload hx hb dX5_dayOf_2_226 (lv_at hl 12 rfl) ?_
                      refine lv_istore (lv' := [(9, .int (nI j)), (11, .int 1), (0, .ref m0), (1, .int kd), (2, .int f), (3, .int d), (4, .int wk), (5, .int law), (6, .int as), (7, .int fg), (10, .int (nI w)), (12, .int ((att w) - (wal w))), (13, .int (nI j)), (14, .int 0), (15, .int x15)]) hx hb dX5_dayOf_2_228 hl (by decide) rfl (fun ls hl => ?_)
                      refine lv_aload_n hx hb dX5_dayOf_2_230 rfl (lv_at hl 2 rfl) ?_
                      refine lv_dup hx hb dX5_dayOf_2_231 rfl ?_
                      refine va_get (D := (dC, dI)) (ci := 4) (v := .int paid) (C := RX5) (T := TX5) (N := 41) hx hb hts in_X5 hown hK.1 hP 0 rfl rfl 19 (by decide) (hts _ q1111) (fun _ h9 => h9) rfl dX5_dayOf_2_232 ?_
                      refine lv_iload hx hb dX5_dayOf_2_235 (lv_at hl 8 rfl) ?_
                      refine lv_iload hx hb dX5_dayOf_2_237 (lv_at hl 7 rfl) ?_
                      refine lv_iload hx hb dX5_dayOf_2_239 (lv_at hl 12 rfl) ?_
                      refine ro_S (rest := [.int as, .int paid, .ref m0]) (As := [.int law, .int (nI j)]) (wc := []) ⟨hx, hb, hml, hown, hts⟩ (met_X5_priceBy law (nI j)) (va_cwS 2 hts (lw_S q1237 q1238 q46 q1239) rfl rfl rfl hdS_X5_priceBy ⟨(Nat.le_trans (m := 4) (Nat.le_of_ble_eq_true rfl) hfr), (Nat.le_trans (m := 192) (Nat.le_of_ble_eq_true rfl) hlc)⟩) hK hP [] rfl rfl hl.1 rfl (Nat.le_of_ble_eq_true rfl) dX5_dayOf_2_241 ⟨Nat.le_of_ble_eq_true rfl, Nat.le_of_ble_eq_true rfl⟩ (fun r_241 h_241 => ?_)
                      obtain rfl : r_241 = sp_by law (nI j) := h_241
                      refine ro_S (rest := [.int paid, .ref m0]) (As := [.int as, .int (sp_by law (nI j))]) (wc := []) ⟨hx, hb, hml, hown, hts⟩ (met_X5_pays as (sp_by law (nI j))) (va_cwS 2 hts (lw_S q1298 q1299 q46 q1300) rfl rfl rfl hdS_X5_pays ⟨(Nat.le_trans (m := 4) (Nat.le_of_ble_eq_true rfl) hfr), (Nat.le_trans (m := 192) (Nat.le_of_ble_eq_true rfl) hlc)⟩) hK hP [] rfl rfl hl.1 rfl (Nat.le_of_ble_eq_true rfl) dX5_dayOf_2_244 ⟨Nat.le_of_ble_eq_true rfl, Nat.le_of_ble_eq_true rfl⟩ (fun r_244 h_244 => ?_)
                      obtain rfl : r_244 = sp_pays as (sp_by law (nI j)) := h_244
                      refine lv_iadd hx hb dX5_dayOf_2_247 ?_
                      refine va_put (D := (dC, dI)) (ci := 4) (v := .int (paid + (sp_pays as (sp_by law (nI j))))) (ty := .int) (C := RX5) (T := TX5) (N := 41) hx hb hts in_X5 tyX5 tyX5_ok nmX5 hown hK.1 hP hD hS 0 rfl rfl 19 (by decide) (hts _ q1111) (fun _ h9 => h9) rfl (tyX5_ok 19 (by decide)) rfl rfl (Nat.le_of_ble_eq_true rfl) dX5_dayOf_2_248 (fun H locs hP hD hS => ?_)
                      have hP : va_P (dC, dI) vwCl [(m0, .inr (4, moF a (va_up (va_up (va_up (va_up (va_up v1 19 (paid + (sp_pays as (sp_by law (nI j))))) 20 (nI n)) 22 (dLt X)) 23 (dPn X)) 24 (dId X)))), ((a 0), .inl (dA 0, 4, .inl (mn4 wn kn pn lw))), ((a 1), .inl (dA 0, 5, .inl att)), ((a 2), .inl (dA 0, 5, .inl wal)), ((a 3), .inl (dA 0, 5, .inl fin)), ((a 8), .inl (dA 0, 8, .inl pla)), ((a 21), .inl (dA 0, 16, .inl lk2)), ((a 25), .inl (dA 0, 5, .inl (upd (dCm X) w (-4))))] H := hP
                      have hD : va_D A [(m0, .inr (4, moF a (va_up (va_up (va_up (va_up (va_up v1 19 (paid + (sp_pays as (sp_by law (nI j))))) 20 (nI n)) 22 (dLt X)) 23 (dPn X)) 24 (dId X)))), ((a 0), .inl (dA 0, 4, .inl (mn4 wn kn pn lw))), ((a 1), .inl (dA 0, 5, .inl att)), ((a 2), .inl (dA 0, 5, .inl wal)), ((a 3), .inl (dA 0, 5, .inl fin)), ((a 8), .inl (dA 0, 8, .inl pla)), ((a 21), .inl (dA 0, 16, .inl lk2)), ((a 25), .inl (dA 0, 5, .inl (upd (dCm X) w (-4))))] := hD
                      refine lv_aload_n hx hb dX5_dayOf_2_251 rfl (lv_at hl 2 rfl) ?_
                      refine va_get (D := (dC, dI)) (ci := 4) (v := .ref (a 21)) (C := RX5) (T := TX5) (N := 41) hx hb hts in_X5 hown hK.1 hP 0 rfl rfl 21 (by decide) (hts _ q1113) (fun _ h9 => h9) rfl dX5_dayOf_2_252 ?_
                      refine lv_aload_n hx hb dX5_dayOf_2_255 rfl (lv_at hl 2 rfl) ?_
                      refine va_get (D := (dC, dI)) (ci := 4) (v := .int (nI n)) (C := RX5) (T := TX5) (N := 41) hx hb hts in_X5 hown hK.1 hP 0 rfl rfl 20 (by decide) (hts _ q1112) (fun _ h9 => h9) rfl dX5_dayOf_2_256 ?_
                      refine lv_iload hx hb dX5_dayOf_2_259 (lv_at hl 12 rfl) ?_
                      refine va_iast hx hb hK.1 hP hD hS 6 0 rfl rfl (vp_in_nI (by omega) (by omega)) dX5_dayOf_2_261 (fun H locs hP hD hS => ?_)
                      rw [nI_clamp (n := n) (by omega)] at hP hD
                      have hP : va_P (dC, dI) vwCl [(m0, .inr (4, moF a (va_up (va_up (va_up (va_up (va_up v1 19 (paid + (sp_pays as (sp_by law (nI j))))) 20 (nI n)) 22 (dLt X)) 23 (dPn X)) 24 (dId X)))), ((a 0), .inl (dA 0, 4, .inl (mn4 wn kn pn lw))), ((a 1), .inl (dA 0, 5, .inl att)), ((a 2), .inl (dA 0, 5, .inl wal)), ((a 3), .inl (dA 0, 5, .inl fin)), ((a 8), .inl (dA 0, 8, .inl pla)), ((a 21), .inl (dA 0, 16, .inl (upd lk2 n (nI j)))), ((a 25), .inl (dA 0, 5, .inl (upd (dCm X) w (-4))))] H := hP
                      have hD : va_D A [(m0, .inr (4, moF a (va_up (va_up (va_up (va_up (va_up v1 19 (paid + (sp_pays as (sp_by law (nI j))))) 20 (nI n)) 22 (dLt X)) 23 (dPn X)) 24 (dId X)))), ((a 0), .inl (dA 0, 4, .inl (mn4 wn kn pn lw))), ((a 1), .inl (dA 0, 5, .inl att)), ((a 2), .inl (dA 0, 5, .inl wal)), ((a 3), .inl (dA 0, 5, .inl fin)), ((a 8), .inl (dA 0, 8, .inl pla)), ((a 21), .inl (dA 0, 16, .inl (upd lk2 n (nI j)))), ((a 25), .inl (dA 0, 5, .inl (upd (dCm X) w (-4))))] := hD
                      refine lv_aload_n hx hb dX5_dayOf_2_262 rfl (lv_at hl 2 rfl) ?_
                      refine lv_dup hx hb dX5_dayOf_2_263 rfl ?_
                      refine va_get (D := (dC, dI)) (ci := 4) (v := .int (nI n)) (C := RX5) (T := TX5) (N := 41) hx hb hts in_X5 hown hK.1 hP 0 rfl rfl 20 (by decide) (hts _ q1112) (fun _ h9 => h9) rfl dX5_dayOf_2_264 ?_
                      refine lv_iconst (v := 1) hx hb dX5_dayOf_2_267 (by decide) ?_
                      refine lv_iadd hx hb dX5_dayOf_2_268 ?_
                      refine lv_eqi (y := (nI (n + 1))) (nI_1 n) ?_
                      refine va_put (D := (dC, dI)) (ci := 4) (v := .int (nI (n + 1))) (ty := .int) (C := RX5) (T := TX5) (N := 41) hx hb hts in_X5 tyX5 tyX5_ok nmX5 hown hK.1 hP hD hS 0 rfl rfl 20 (by decide) (hts _ q1112) (fun _ h9 => h9) rfl (tyX5_ok 20 (by decide)) rfl rfl (Nat.le_of_ble_eq_true rfl) dX5_dayOf_2_269 (fun H locs hP hD hS => ?_)
                      have hP : va_P (dC, dI) vwCl [(m0, .inr (4, moF a (va_up (va_up (va_up (va_up (va_up v1 19 (paid + (sp_pays as (sp_by law (nI j))))) 20 (nI (n + 1))) 22 (dLt X)) 23 (dPn X)) 24 (dId X)))), ((a 0), .inl (dA 0, 4, .inl (mn4 wn kn pn lw))), ((a 1), .inl (dA 0, 5, .inl att)), ((a 2), .inl (dA 0, 5, .inl wal)), ((a 3), .inl (dA 0, 5, .inl fin)), ((a 8), .inl (dA 0, 8, .inl pla)), ((a 21), .inl (dA 0, 16, .inl (upd lk2 n (nI j)))), ((a 25), .inl (dA 0, 5, .inl (upd (dCm X) w (-4))))] H := hP
                      have hD : va_D A [(m0, .inr (4, moF a (va_up (va_up (va_up (va_up (va_up v1 19 (paid + (sp_pays as (sp_by law (nI j))))) 20 (nI (n + 1))) 22 (dLt X)) 23 (dPn X)) 24 (dId X)))), ((a 0), .inl (dA 0, 4, .inl (mn4 wn kn pn lw))), ((a 1), .inl (dA 0, 5, .inl att)), ((a 2), .inl (dA 0, 5, .inl wal)), ((a 3), .inl (dA 0, 5, .inl fin)), ((a 8), .inl (dA 0, 8, .inl pla)), ((a 21), .inl (dA 0, 16, .inl (upd lk2 n (nI j)))), ((a 25), .inl (dA 0, 5, .inl (upd (dCm X) w (-4))))] := hD
                      refine lv_iload hx hb dX5_dayOf_2_272 (lv_at hl 12 rfl) ?_
                      refine lv_sipush (v := 719) hx hb dX5_dayOf_2_274 (by decide) ?_
                      refine lv_icmp_eq (tgt := 301) hx hb dX5_dayOf_2_277 (by decide) (fun c_277_2 => ?_) (fun c_277_2 => ?_)
                      · skip
                        have n_c_277_2 : j = 719 := (nI_eq (a := j) (b := 719) (by omega) (by omega)).mp c_277_2
                        have hg : sp_goes as fg d (att w - wal w) (nI j) j := Or.inl n_c_277_2
                        refine lv_iconst (v := 1) hx hb dX5_dayOf_2_301 (by decide) ?_
                        refine lv_goto (tgt := 306) hx hb dX5_dayOf_2_302 (by decide) ?_
                        refine lv_istore (lv' := [(14, .int 1), (9, .int (nI j)), (11, .int 1), (0, .ref m0), (1, .int kd), (2, .int f), (3, .int d), (4, .int wk), (5, .int law), (6, .int as), (7, .int fg), (10, .int (nI w)), (12, .int ((att w) - (wal w))), (13, .int (nI j)), (15, .int x15)]) hx hb dX5_dayOf_2_306 hl (by decide) rfl (fun ls hl => ?_)
                        refine lv_iload hx hb dX5_dayOf_2_308 (lv_at hl 13 rfl) ?_
                        refine lv_iload hx hb dX5_dayOf_2_310 (lv_at hl 0 rfl) ?_
                        refine lv_if_eq (tgt := 319) hx hb dX5_dayOf_2_312 (by decide) (fun c_312_4 => ?_) (fun c_312_4 => ?_)
                        · skip
                          exact absurd c_312_4 (by decide)
                        · skip
                          refine lv_iconst (v := 0) hx hb dX5_dayOf_2_315 (by decide) ?_
                          refine lv_goto (tgt := 320) hx hb dX5_dayOf_2_316 (by decide) ?_
                          refine lv_iadd hx hb dX5_dayOf_2_320 ?_
                          refine lv_eqi (y := (nI j)) (by rw [show (0 : Int32) = nI 0 from rfl, nI_add]; rfl) ?_
                          refine lv_istore (lv' := [(13, .int (nI j)), (14, .int 1), (9, .int (nI j)), (11, .int 1), (0, .ref m0), (1, .int kd), (2, .int f), (3, .int d), (4, .int wk), (5, .int law), (6, .int as), (7, .int fg), (10, .int (nI w)), (12, .int ((att w) - (wal w))), (15, .int x15)]) hx hb dX5_dayOf_2_321 hl (by decide) rfl (fun ls hl => ?_)
                          refine lv_goto (tgt := 127) hx hb dX5_dayOf_2_323 (by decide) ?_
                          refine lv_iload hx hb dX5_dayOf_2_127 (lv_at hl 1 rfl) ?_
                          refine lv_if_ne (tgt := 326) hx hb dX5_dayOf_2_129 (by decide) (fun c_129_4 => ?_) (fun c_129_4 => ?_)
                          · skip
                            exact K_326 (nI j) j (paid + (sp_pays as (sp_by law (nI j)))) (n + 1) (upd lk2 n (nI j)) (by rw [← hv, sp_ml, if_pos hwd, if_pos hg]) hj (few_goes hfew (Nat.le_refl _) (by omega) hwd) H locs ls hP hD hS (lv_sub hl [4, 5, 6, 7, 8, 9, 10, 11, 2, 12, 0] rfl)
                          · skip
                            exact absurd c_129_4 (by decide)
                      · skip
                        have n_c_277_2 : ¬ j = 719 := fun h9 => c_277_2 ((nI_eq (a := j) (b := 719) (by omega) (by omega)).mpr h9)
                        refine lv_iload_n hx hb dX5_dayOf_2_280 rfl (lv_at hl 5 rfl) ?_
                        refine lv_iload hx hb dX5_dayOf_2_281 (lv_at hl 0 rfl) ?_
                        refine lv_iload hx hb dX5_dayOf_2_283 (lv_at hl 12 rfl) ?_
                        refine ro_S (rest := []) (As := [.int d, .int (nI j), .int (nI j)]) (wc := []) ⟨hx, hb, hml, hown, hts⟩ (met_X5_thought d (nI j) (nI j)) (va_cwS 3 hts (lw_S q1272 q1273 q46 q1274) rfl rfl rfl hdS_X5_thought ⟨(Nat.le_trans (m := 4) (Nat.le_of_ble_eq_true rfl) hfr), (Nat.le_trans (m := 192) (Nat.le_of_ble_eq_true rfl) hlc)⟩) hK hP [] rfl rfl hl.1 rfl (Nat.le_of_ble_eq_true rfl) dX5_dayOf_2_285 ⟨Nat.le_of_ble_eq_true rfl, Nat.le_of_ble_eq_true rfl⟩ (fun r_285_2 h_285_2 => ?_)
                        obtain rfl : r_285_2 = sp_th d (nI j) (nI j) := h_285_2
                        refine lv_iload hx hb dX5_dayOf_2_288 (lv_at hl 11 rfl) ?_
                        refine lv_iload hx hb dX5_dayOf_2_290 (lv_at hl 8 rfl) ?_
                        refine lv_iload hx hb dX5_dayOf_2_292 (lv_at hl 9 rfl) ?_
                        refine ro_S (rest := [.int ((att w) - (wal w)), .int (sp_th d (nI j) (nI j))]) (As := [.int as, .int fg]) (wc := []) ⟨hx, hb, hml, hown, hts⟩ (met_X5_early as fg) (va_cwS 2 hts (lw_S q1260 q1261 q46 q1262) rfl rfl rfl hdS_X5_early ⟨(Nat.le_trans (m := 4) (Nat.le_of_ble_eq_true rfl) hfr), (Nat.le_trans (m := 192) (Nat.le_of_ble_eq_true rfl) hlc)⟩) hK hP [] rfl rfl hl.1 rfl (Nat.le_of_ble_eq_true rfl) dX5_dayOf_2_294 ⟨Nat.le_of_ble_eq_true rfl, Nat.le_of_ble_eq_true rfl⟩ (fun r_294_2 h_294_2 => ?_)
                        obtain rfl : r_294_2 = sp_early as fg := h_294_2
                        refine lv_isub hx hb dX5_dayOf_2_297 ?_
                        refine lv_icmp_lt (tgt := 305) hx hb dX5_dayOf_2_298 (by decide) (fun c_298_2 => ?_) (fun c_298_2 => ?_)
                        · skip
                          have hg : ¬ sp_goes as fg d (att w - wal w) (nI j) j := fun h9 => h9.elim n_c_277_2 (fun h8 => absurd c_298_2 (Int32.not_lt.mpr h8))
                          refine lv_iconst (v := 0) hx hb dX5_dayOf_2_305 (by decide) ?_
                          refine lv_istore (lv' := [(14, .int 0), (9, .int (nI j)), (11, .int 1), (0, .ref m0), (1, .int kd), (2, .int f), (3, .int d), (4, .int wk), (5, .int law), (6, .int as), (7, .int fg), (10, .int (nI w)), (12, .int ((att w) - (wal w))), (13, .int (nI j)), (15, .int x15)]) hx hb dX5_dayOf_2_306 hl (by decide) rfl (fun ls hl => ?_)
                          refine lv_iload hx hb dX5_dayOf_2_308 (lv_at hl 13 rfl) ?_
                          refine lv_iload hx hb dX5_dayOf_2_310 (lv_at hl 0 rfl) ?_
                          refine lv_if_eq (tgt := 319) hx hb dX5_dayOf_2_312 (by decide) (fun c_312_5 => ?_) (fun c_312_5 => ?_)
                          · skip
                            refine lv_iconst (v := 1) hx hb dX5_dayOf_2_319 (by decide) ?_
                            refine lv_iadd hx hb dX5_dayOf_2_320 ?_
                            refine lv_eqi (y := (nI (j + 1))) (nI_1 j) ?_
                            refine lv_istore (lv' := [(13, .int (nI (j + 1))), (14, .int 0), (9, .int (nI j)), (11, .int 1), (0, .ref m0), (1, .int kd), (2, .int f), (3, .int d), (4, .int wk), (5, .int law), (6, .int as), (7, .int fg), (10, .int (nI w)), (12, .int ((att w) - (wal w))), (15, .int x15)]) hx hb dX5_dayOf_2_321 hl (by decide) rfl (fun ls hl => ?_)
                            refine lv_goto (tgt := 127) hx hb dX5_dayOf_2_323 (by decide) ?_
                            exact ih_127 1 (nI j) (j + 1) (paid + (sp_pays as (sp_by law (nI j)))) (n + 1) (upd lk2 n (nI j)) true rfl (by omega) (by omega) (by omega) (few_look hfew (by omega) hwd) (by rw [← hv, sp_ml, if_pos hwd, if_neg hg]) H locs ls hP hD hS (lv_sub hl [4, 5, 6, 7, 8, 9, 10, 11, 2, 12, 3, 13, 0, 1] rfl)
                          · skip
                            exact absurd c_312_5 (by decide)
                        · skip
                          have hg : sp_goes as fg d (att w - wal w) (nI j) j := Or.inr (Int32.not_lt.mp c_298_2)
                          refine lv_iconst (v := 1) hx hb dX5_dayOf_2_301 (by decide) ?_
                          refine lv_goto (tgt := 306) hx hb dX5_dayOf_2_302 (by decide) ?_
                          refine lv_istore (lv' := [(14, .int 1), (9, .int (nI j)), (11, .int 1), (0, .ref m0), (1, .int kd), (2, .int f), (3, .int d), (4, .int wk), (5, .int law), (6, .int as), (7, .int fg), (10, .int (nI w)), (12, .int ((att w) - (wal w))), (13, .int (nI j)), (15, .int x15)]) hx hb dX5_dayOf_2_306 hl (by decide) rfl (fun ls hl => ?_)
                          refine lv_iload hx hb dX5_dayOf_2_308 (lv_at hl 13 rfl) ?_
                          refine lv_iload hx hb dX5_dayOf_2_310 (lv_at hl 0 rfl) ?_
                          refine lv_if_eq (tgt := 319) hx hb dX5_dayOf_2_312 (by decide) (fun c_312_6 => ?_) (fun c_312_6 => ?_)
                          · skip
                            exact absurd c_312_6 (by decide)
                          · skip
                            refine lv_iconst (v := 0) hx hb dX5_dayOf_2_315 (by decide) ?_
                            refine lv_goto (tgt := 320) hx hb dX5_dayOf_2_316 (by decide) ?_
                            refine lv_iadd hx hb dX5_dayOf_2_320 ?_
                            refine lv_eqi (y := (nI j)) (by rw [show (0 : Int32) = nI 0 from rfl, nI_add]; rfl) ?_
                            refine lv_istore (lv' := [(13, .int (nI j)), (14, .int 1), (9, .int (nI j)), (11, .int 1), (0, .ref m0), (1, .int kd), (2, .int f), (3, .int d), (4, .int wk), (5, .int law), (6, .int as), (7, .int fg), (10, .int (nI w)), (12, .int ((att w) - (wal w))), (15, .int x15)]) hx hb dX5_dayOf_2_321 hl (by decide) rfl (fun ls hl => ?_)
                            refine lv_goto (tgt := 127) hx hb dX5_dayOf_2_323 (by decide) ?_
                            refine lv_iload hx hb dX5_dayOf_2_127 (lv_at hl 1 rfl) ?_
                            refine lv_if_ne (tgt := 326) hx hb dX5_dayOf_2_129 (by decide) (fun c_129_5 => ?_) (fun c_129_5 => ?_)
                            · skip
                              exact K_326 (nI j) j (paid + (sp_pays as (sp_by law (nI j)))) (n + 1) (upd lk2 n (nI j)) (by rw [← hv, sp_ml, if_pos hwd, if_pos hg]) hj (few_goes hfew (Nat.le_refl _) (by omega) hwd) H locs ls hP hD hS (lv_sub hl [4, 5, 6, 7, 8, 9, 10, 11, 2, 12, 0] rfl)
                            · skip
                              exact absurd c_129_5 (by decide)
                  refine lv_iload hx hb dX5_dayOf_2_132 (lv_at hl 6 rfl) ?_
                  refine lv_bipush (v := 6) hx hb dX5_dayOf_2_134 (by decide) ?_
                  refine lv_icmp_ne (tgt := 152) hx hb dX5_dayOf_2_136 (by decide) (fun c_136 => ?_) (fun c_136 => ?_)
                  · skip
                    refine lv_iconst (v := 0) hx hb dX5_dayOf_2_152 (by decide) ?_
                    refine lv_istore (lv' := [(15, .int 0), (0, .ref m0), (1, .int kd), (2, .int f), (3, .int d), (4, .int wk), (5, .int law), (6, .int as), (7, .int fg), (9, .int look), (10, .int (nI w)), (11, .int x11), (12, .int ((att w) - (wal w))), (13, .int (nI j)), (14, .int 0)]) hx hb dX5_dayOf_2_153 hl (by decide) rfl (fun ls hl => ?_)
                    refine lv_iload hx hb dX5_dayOf_2_155 (lv_at hl 7 rfl) ?_
                    refine ro_S (rest := []) (As := [.int as]) (wc := []) ⟨hx, hb, hml, hown, hts⟩ (met_X5_isClock as) (va_cwS 1 hts (lw_S q1295 q1296 q46 q1297) rfl rfl rfl hdS_X5_isClock ⟨(Nat.le_trans (m := 4) (Nat.le_of_ble_eq_true rfl) hfr), (Nat.le_trans (m := 192) (Nat.le_of_ble_eq_true rfl) hlc)⟩) hK hP [] rfl rfl hl.1 rfl (Nat.le_of_ble_eq_true rfl) dX5_dayOf_2_157 ⟨Nat.le_of_ble_eq_true rfl, Nat.le_of_ble_eq_true rfl⟩ (fun r_157 h_157 => ?_)
                    obtain rfl : r_157 = bI (sp_clock as) := h_157
                    refine lv_if_eq (tgt := 218) hx hb dX5_dayOf_2_160 (by decide) (fun c_160 => ?_) (fun c_160 => ?_)
                    · skip
                      have c_160 := bI_eq0 (P := sp_clock as) rfl c_160
                      exact K_218 0 (by clear hl hP hK hts hD hS hA ih_68 K_326 ih_127 K_218; clear hv hB htn hwk has hX hfr9 hfew; subst hx11; grind [bI]) H locs ls hP hD hS (lv_sub hl [1, 2, 3, 4, 5, 6, 7, 8, 9, 10, 11, 12, 13, 14, 0] rfl)
                    · skip
                      have c_160 := bI_ne0 (P := sp_clock as) rfl c_160
                      refine lv_iload hx hb dX5_dayOf_2_163 (lv_at hl 11 rfl) ?_
                      refine lv_if_ne (tgt := 218) hx hb dX5_dayOf_2_165 (by decide) (fun c_165 => ?_) (fun c_165 => ?_)
                      · skip
                        exact K_218 0 (by clear hl hP hK hts hD hS hA ih_68 K_326 ih_127 K_218; clear hv hB htn hwk has hX hfr9 hfew; subst hx11; grind [bI]) H locs ls hP hD hS (lv_sub hl [1, 2, 3, 4, 5, 6, 7, 8, 9, 10, 11, 12, 13, 14, 0] rfl)
                      · skip
                        refine lv_iload_n hx hb dX5_dayOf_2_168 rfl (lv_at hl 4 rfl) ?_
                        refine lv_iload hx hb dX5_dayOf_2_169 (lv_at hl 9 rfl) ?_
                        refine lv_iload hx hb dX5_dayOf_2_171 (lv_at hl 13 rfl) ?_
                        refine ro_S (rest := []) (As := [.int d, .int look, .int (nI j)]) (wc := []) ⟨hx, hb, hml, hown, hts⟩ (met_X5_thought d look (nI j)) (va_cwS 3 hts (lw_S q1272 q1273 q46 q1274) rfl rfl rfl hdS_X5_thought ⟨(Nat.le_trans (m := 4) (Nat.le_of_ble_eq_true rfl) hfr), (Nat.le_trans (m := 192) (Nat.le_of_ble_eq_true rfl) hlc)⟩) hK hP [] rfl rfl hl.1 rfl (Nat.le_of_ble_eq_true rfl) dX5_dayOf_2_173 ⟨Nat.le_of_ble_eq_true rfl, Nat.le_of_ble_eq_true rfl⟩ (fun r_173 h_173 => ?_)
                        obtain rfl : r_173 = sp_th d look (nI j) := h_173
                        refine lv_iload hx hb dX5_dayOf_2_176 (lv_at hl 12 rfl) ?_
                        refine lv_iconst (v := 5) hx hb dX5_dayOf_2_178 (by decide) ?_
                        refine lv_iload hx hb dX5_dayOf_2_179 (lv_at hl 8 rfl) ?_
                        refine lv_imul hx hb dX5_dayOf_2_181 ?_
                        refine lv_isub hx hb dX5_dayOf_2_182 ?_
                        refine lv_icmp_lt (tgt := 218) hx hb dX5_dayOf_2_183 (by decide) (fun c_183 => ?_) (fun c_183 => ?_)
                        · skip
                          exact K_218 0 (by clear hl hP hK hts hD hS hA ih_68 K_326 ih_127 K_218; clear hv hB htn hwk has hX hfr9 hfew; subst hx11; grind [bI]) H locs ls hP hD hS (lv_sub hl [1, 2, 3, 4, 5, 6, 7, 8, 9, 10, 11, 12, 13, 14, 0] rfl)
                        · skip
                          refine lv_iload hx hb dX5_dayOf_2_186 (lv_at hl 7 rfl) ?_
                          refine lv_iconst (v := 3) hx hb dX5_dayOf_2_188 (by decide) ?_
                          refine lv_icmp_eq (tgt := 199) hx hb dX5_dayOf_2_189 (by decide) (fun c_189 => ?_) (fun c_189 => ?_)
                          · skip
                            refine lv_iload hx hb dX5_dayOf_2_199 (lv_at hl 6 rfl) ?_
                            refine lv_iload hx hb dX5_dayOf_2_201 (lv_at hl 13 rfl) ?_
                            refine ro_S (rest := []) (As := [.int law, .int (nI j)]) (wc := []) ⟨hx, hb, hml, hown, hts⟩ (met_X5_priceBy law (nI j)) (va_cwS 2 hts (lw_S q1237 q1238 q46 q1239) rfl rfl rfl hdS_X5_priceBy ⟨(Nat.le_trans (m := 4) (Nat.le_of_ble_eq_true rfl) hfr), (Nat.le_trans (m := 192) (Nat.le_of_ble_eq_true rfl) hlc)⟩) hK hP [] rfl rfl hl.1 rfl (Nat.le_of_ble_eq_true rfl) dX5_dayOf_2_203 ⟨Nat.le_of_ble_eq_true rfl, Nat.le_of_ble_eq_true rfl⟩ (fun r_203 h_203 => ?_)
                            obtain rfl : r_203 = sp_by law (nI j) := h_203
                            refine lv_iload hx hb dX5_dayOf_2_206 (lv_at hl 8 rfl) ?_
                            refine lv_icmp_gt (tgt := 215) hx hb dX5_dayOf_2_208 (by decide) (fun c_208 => ?_) (fun c_208 => ?_)
                            · skip
                              refine lv_iconst (v := 0) hx hb dX5_dayOf_2_215 (by decide) ?_
                              refine lv_istore (lv' := [(15, .int 0), (0, .ref m0), (1, .int kd), (2, .int f), (3, .int d), (4, .int wk), (5, .int law), (6, .int as), (7, .int fg), (9, .int look), (10, .int (nI w)), (11, .int x11), (12, .int ((att w) - (wal w))), (13, .int (nI j)), (14, .int 0)]) hx hb dX5_dayOf_2_216 hl (by decide) rfl (fun ls hl => ?_)
                              exact K_218 0 (by clear hl hP hK hts hD hS hA ih_68 K_326 ih_127 K_218; clear hv hB htn hwk has hX hfr9 hfew; subst hx11; grind [bI]) H locs ls hP hD hS (lv_sub hl [1, 2, 3, 4, 5, 6, 7, 8, 9, 10, 11, 12, 13, 14, 0] rfl)
                            · skip
                              refine lv_iconst (v := 1) hx hb dX5_dayOf_2_211 (by decide) ?_
                              refine lv_goto (tgt := 216) hx hb dX5_dayOf_2_212 (by decide) ?_
                              refine lv_istore (lv' := [(15, .int 1), (0, .ref m0), (1, .int kd), (2, .int f), (3, .int d), (4, .int wk), (5, .int law), (6, .int as), (7, .int fg), (9, .int look), (10, .int (nI w)), (11, .int x11), (12, .int ((att w) - (wal w))), (13, .int (nI j)), (14, .int 0)]) hx hb dX5_dayOf_2_216 hl (by decide) rfl (fun ls hl => ?_)
                              exact K_218 1 (by clear hl hP hK hts hD hS hA ih_68 K_326 ih_127 K_218; clear hv hB htn hwk has hX hfr9 hfew; subst hx11; grind [bI]) H locs ls hP hD hS (lv_sub hl [1, 2, 3, 4, 5, 6, 7, 8, 9, 10, 11, 12, 13, 14, 0] rfl)
                          · skip
                            refine lv_iload hx hb dX5_dayOf_2_192 (lv_at hl 7 rfl) ?_
                            refine lv_bipush (v := 7) hx hb dX5_dayOf_2_194 (by decide) ?_
                            refine lv_icmp_ne (tgt := 211) hx hb dX5_dayOf_2_196 (by decide) (fun c_196 => ?_) (fun c_196 => ?_)
                            · skip
                              refine lv_iconst (v := 1) hx hb dX5_dayOf_2_211 (by decide) ?_
                              refine lv_goto (tgt := 216) hx hb dX5_dayOf_2_212 (by decide) ?_
                              refine lv_istore (lv' := [(15, .int 1), (0, .ref m0), (1, .int kd), (2, .int f), (3, .int d), (4, .int wk), (5, .int law), (6, .int as), (7, .int fg), (9, .int look), (10, .int (nI w)), (11, .int x11), (12, .int ((att w) - (wal w))), (13, .int (nI j)), (14, .int 0)]) hx hb dX5_dayOf_2_216 hl (by decide) rfl (fun ls hl => ?_)
                              exact K_218 1 (by clear hl hP hK hts hD hS hA ih_68 K_326 ih_127 K_218; clear hv hB htn hwk has hX hfr9 hfew; subst hx11; grind [bI]) H locs ls hP hD hS (lv_sub hl [1, 2, 3, 4, 5, 6, 7, 8, 9, 10, 11, 12, 13, 14, 0] rfl)
                            · skip
                              refine lv_iload hx hb dX5_dayOf_2_199 (lv_at hl 6 rfl) ?_
                              refine lv_iload hx hb dX5_dayOf_2_201 (lv_at hl 13 rfl) ?_
                              refine ro_S (rest := []) (As := [.int law, .int (nI j)]) (wc := []) ⟨hx, hb, hml, hown, hts⟩ (met_X5_priceBy law (nI j)) (va_cwS 2 hts (lw_S q1237 q1238 q46 q1239) rfl rfl rfl hdS_X5_priceBy ⟨(Nat.le_trans (m := 4) (Nat.le_of_ble_eq_true rfl) hfr), (Nat.le_trans (m := 192) (Nat.le_of_ble_eq_true rfl) hlc)⟩) hK hP [] rfl rfl hl.1 rfl (Nat.le_of_ble_eq_true rfl) dX5_dayOf_2_203 ⟨Nat.le_of_ble_eq_true rfl, Nat.le_of_ble_eq_true rfl⟩ (fun r_203_2 h_203_2 => ?_)
                              obtain rfl : r_203_2 = sp_by law (nI j) := h_203_2
                              refine lv_iload hx hb dX5_dayOf_2_206 (lv_at hl 8 rfl) ?_
                              refine lv_icmp_gt (tgt := 215) hx hb dX5_dayOf_2_208 (by decide) (fun c_208_2 => ?_) (fun c_208_2 => ?_)
                              · skip
                                refine lv_iconst (v := 0) hx hb dX5_dayOf_2_215 (by decide) ?_
                                refine lv_istore (lv' := [(15, .int 0), (0, .ref m0), (1, .int kd), (2, .int f), (3, .int d), (4, .int wk), (5, .int law), (6, .int as), (7, .int fg), (9, .int look), (10, .int (nI w)), (11, .int x11), (12, .int ((att w) - (wal w))), (13, .int (nI j)), (14, .int 0)]) hx hb dX5_dayOf_2_216 hl (by decide) rfl (fun ls hl => ?_)
                                exact K_218 0 (by clear hl hP hK hts hD hS hA ih_68 K_326 ih_127 K_218; clear hv hB htn hwk has hX hfr9 hfew; subst hx11; grind [bI]) H locs ls hP hD hS (lv_sub hl [1, 2, 3, 4, 5, 6, 7, 8, 9, 10, 11, 12, 13, 14, 0] rfl)
                              · skip
                                refine lv_iconst (v := 1) hx hb dX5_dayOf_2_211 (by decide) ?_
                                refine lv_goto (tgt := 216) hx hb dX5_dayOf_2_212 (by decide) ?_
                                refine lv_istore (lv' := [(15, .int 1), (0, .ref m0), (1, .int kd), (2, .int f), (3, .int d), (4, .int wk), (5, .int law), (6, .int as), (7, .int fg), (9, .int look), (10, .int (nI w)), (11, .int x11), (12, .int ((att w) - (wal w))), (13, .int (nI j)), (14, .int 0)]) hx hb dX5_dayOf_2_216 hl (by decide) rfl (fun ls hl => ?_)
                                exact K_218 1 (by clear hl hP hK hts hD hS hA ih_68 K_326 ih_127 K_218; clear hv hB htn hwk has hX hfr9 hfew; subst hx11; grind [bI]) H locs ls hP hD hS (lv_sub hl [1, 2, 3, 4, 5, 6, 7, 8, 9, 10, 11, 12, 13, 14, 0] rfl)
                  · skip
                    refine lv_aload_n hx hb dX5_dayOf_2_139 rfl (lv_at hl 0 rfl) ?_
                    refine lv_iload hx hb dX5_dayOf_2_140 (lv_at hl 12 rfl) ?_
                    refine ro_V (rest := []) (As := [.int (nI j)]) (wc := [(m0, .inr (4, moF a (va_up (va_up (va_up (va_up (va_up v1 19 paid) 20 (nI n)) 22 (dLt X)) 23 (dPn X)) 24 (dId X)))), ((a 0), .inl (dA 0, 4, .inl (mn4 wn kn pn lw))), ((a 8), .inl (dA 0, 8, .inl pla))]) ⟨hx, hb, hml, hown, hts⟩ (met_X5_isPlanned m0 a (va_up (va_up (va_up (va_up (va_up v1 19 paid) 20 (nI n)) 22 (dLt X)) 23 (dPn X)) 24 (dId X)) wn kn pn lw pla (nI j) (by assumption)) (cwV 1 hts (lw_V q1291 q1293 qs29 q46 q1294) rfl rfl rfl hdV_X5_isPlanned ⟨(Nat.le_trans (m := 4) (Nat.le_of_ble_eq_true rfl) hfr), (Nat.le_trans (m := 192) (Nat.le_of_ble_eq_true rfl) hlc)⟩) hK hP [0, 1, 5] rfl (va_recv hK.1 hP (ci := 4) (q0 := 0) rfl rfl) rfl hl.1 rfl (Nat.le_of_ble_eq_true rfl) dX5_dayOf_2_142 ⟨Nat.le_of_ble_eq_true rfl, Nat.le_of_ble_eq_true rfl⟩ (fun r_142 h_142 => ?_)
                    obtain rfl : r_142 = bI (sp_plan pla (nI j) pn = true) := h_142
                    refine lv_if_eq (tgt := 152) hx hb dX5_dayOf_2_145 (by decide) (fun c_145 => ?_) (fun c_145 => ?_)
                    · skip
                      have c_145 := bI_eq0 (P := sp_plan pla (nI j) pn = true) rfl c_145
                      refine lv_iconst (v := 0) hx hb dX5_dayOf_2_152 (by decide) ?_
                      refine lv_istore (lv' := [(15, .int 0), (0, .ref m0), (1, .int kd), (2, .int f), (3, .int d), (4, .int wk), (5, .int law), (6, .int as), (7, .int fg), (9, .int look), (10, .int (nI w)), (11, .int x11), (12, .int ((att w) - (wal w))), (13, .int (nI j)), (14, .int 0)]) hx hb dX5_dayOf_2_153 hl (by decide) rfl (fun ls hl => ?_)
                      refine lv_iload hx hb dX5_dayOf_2_155 (lv_at hl 7 rfl) ?_
                      refine ro_S (rest := []) (As := [.int as]) (wc := []) ⟨hx, hb, hml, hown, hts⟩ (met_X5_isClock as) (va_cwS 1 hts (lw_S q1295 q1296 q46 q1297) rfl rfl rfl hdS_X5_isClock ⟨(Nat.le_trans (m := 4) (Nat.le_of_ble_eq_true rfl) hfr), (Nat.le_trans (m := 192) (Nat.le_of_ble_eq_true rfl) hlc)⟩) hK hP [] rfl rfl hl.1 rfl (Nat.le_of_ble_eq_true rfl) dX5_dayOf_2_157 ⟨Nat.le_of_ble_eq_true rfl, Nat.le_of_ble_eq_true rfl⟩ (fun r_157_2 h_157_2 => ?_)
                      obtain rfl : r_157_2 = bI (sp_clock as) := h_157_2
                      refine lv_if_eq (tgt := 218) hx hb dX5_dayOf_2_160 (by decide) (fun c_160_2 => ?_) (fun c_160_2 => ?_)
                      · skip
                        have c_160_2 := bI_eq0 (P := sp_clock as) rfl c_160_2
                        exact K_218 0 (by clear hl hP hK hts hD hS hA ih_68 K_326 ih_127 K_218; clear hv hB htn hwk has hX hfr9 hfew; subst hx11; grind [bI]) H locs ls hP hD hS (lv_sub hl [1, 2, 3, 4, 5, 6, 7, 8, 9, 10, 11, 12, 13, 14, 0] rfl)
                      · skip
                        have c_160_2 := bI_ne0 (P := sp_clock as) rfl c_160_2
                        refine lv_iload hx hb dX5_dayOf_2_163 (lv_at hl 11 rfl) ?_
                        refine lv_if_ne (tgt := 218) hx hb dX5_dayOf_2_165 (by decide) (fun c_165_2 => ?_) (fun c_165_2 => ?_)
                        · skip
                          exact K_218 0 (by clear hl hP hK hts hD hS hA ih_68 K_326 ih_127 K_218; clear hv hB htn hwk has hX hfr9 hfew; subst hx11; grind [bI]) H locs ls hP hD hS (lv_sub hl [1, 2, 3, 4, 5, 6, 7, 8, 9, 10, 11, 12, 13, 14, 0] rfl)
                        · skip
                          refine lv_iload_n hx hb dX5_dayOf_2_168 rfl (lv_at hl 4 rfl) ?_
                          refine lv_iload hx hb dX5_dayOf_2_169 (lv_at hl 9 rfl) ?_
                          refine lv_iload hx hb dX5_dayOf_2_171 (lv_at hl 13 rfl) ?_
                          refine ro_S (rest := []) (As := [.int d, .int look, .int (nI j)]) (wc := []) ⟨hx, hb, hml, hown, hts⟩ (met_X5_thought d look (nI j)) (va_cwS 3 hts (lw_S q1272 q1273 q46 q1274) rfl rfl rfl hdS_X5_thought ⟨(Nat.le_trans (m := 4) (Nat.le_of_ble_eq_true rfl) hfr), (Nat.le_trans (m := 192) (Nat.le_of_ble_eq_true rfl) hlc)⟩) hK hP [] rfl rfl hl.1 rfl (Nat.le_of_ble_eq_true rfl) dX5_dayOf_2_173 ⟨Nat.le_of_ble_eq_true rfl, Nat.le_of_ble_eq_true rfl⟩ (fun r_173_2 h_173_2 => ?_)
                          obtain rfl : r_173_2 = sp_th d look (nI j) := h_173_2
                          refine lv_iload hx hb dX5_dayOf_2_176 (lv_at hl 12 rfl) ?_
                          refine lv_iconst (v := 5) hx hb dX5_dayOf_2_178 (by decide) ?_
                          refine lv_iload hx hb dX5_dayOf_2_179 (lv_at hl 8 rfl) ?_
                          refine lv_imul hx hb dX5_dayOf_2_181 ?_
                          refine lv_isub hx hb dX5_dayOf_2_182 ?_
                          refine lv_icmp_lt (tgt := 218) hx hb dX5_dayOf_2_183 (by decide) (fun c_183_2 => ?_) (fun c_183_2 => ?_)
                          · skip
                            exact K_218 0 (by clear hl hP hK hts hD hS hA ih_68 K_326 ih_127 K_218; clear hv hB htn hwk has hX hfr9 hfew; subst hx11; grind [bI]) H locs ls hP hD hS (lv_sub hl [1, 2, 3, 4, 5, 6, 7, 8, 9, 10, 11, 12, 13, 14, 0] rfl)
                          · skip
                            refine lv_iload hx hb dX5_dayOf_2_186 (lv_at hl 7 rfl) ?_
                            refine lv_iconst (v := 3) hx hb dX5_dayOf_2_188 (by decide) ?_
                            refine lv_icmp_eq (tgt := 199) hx hb dX5_dayOf_2_189 (by decide) (fun c_189_2 => ?_) (fun c_189_2 => ?_)
                            · skip
                              refine lv_iload hx hb dX5_dayOf_2_199 (lv_at hl 6 rfl) ?_
                              refine lv_iload hx hb dX5_dayOf_2_201 (lv_at hl 13 rfl) ?_
                              refine ro_S (rest := []) (As := [.int law, .int (nI j)]) (wc := []) ⟨hx, hb, hml, hown, hts⟩ (met_X5_priceBy law (nI j)) (va_cwS 2 hts (lw_S q1237 q1238 q46 q1239) rfl rfl rfl hdS_X5_priceBy ⟨(Nat.le_trans (m := 4) (Nat.le_of_ble_eq_true rfl) hfr), (Nat.le_trans (m := 192) (Nat.le_of_ble_eq_true rfl) hlc)⟩) hK hP [] rfl rfl hl.1 rfl (Nat.le_of_ble_eq_true rfl) dX5_dayOf_2_203 ⟨Nat.le_of_ble_eq_true rfl, Nat.le_of_ble_eq_true rfl⟩ (fun r_203_3 h_203_3 => ?_)
                              obtain rfl : r_203_3 = sp_by law (nI j) := h_203_3
                              refine lv_iload hx hb dX5_dayOf_2_206 (lv_at hl 8 rfl) ?_
                              refine lv_icmp_gt (tgt := 215) hx hb dX5_dayOf_2_208 (by decide) (fun c_208_3 => ?_) (fun c_208_3 => ?_)
                              · skip
                                refine lv_iconst (v := 0) hx hb dX5_dayOf_2_215 (by decide) ?_
                                refine lv_istore (lv' := [(15, .int 0), (0, .ref m0), (1, .int kd), (2, .int f), (3, .int d), (4, .int wk), (5, .int law), (6, .int as), (7, .int fg), (9, .int look), (10, .int (nI w)), (11, .int x11), (12, .int ((att w) - (wal w))), (13, .int (nI j)), (14, .int 0)]) hx hb dX5_dayOf_2_216 hl (by decide) rfl (fun ls hl => ?_)
                                exact K_218 0 (by clear hl hP hK hts hD hS hA ih_68 K_326 ih_127 K_218; clear hv hB htn hwk has hX hfr9 hfew; subst hx11; grind [bI]) H locs ls hP hD hS (lv_sub hl [1, 2, 3, 4, 5, 6, 7, 8, 9, 10, 11, 12, 13, 14, 0] rfl)
                              · skip
                                refine lv_iconst (v := 1) hx hb dX5_dayOf_2_211 (by decide) ?_
                                refine lv_goto (tgt := 216) hx hb dX5_dayOf_2_212 (by decide) ?_
                                refine lv_istore (lv' := [(15, .int 1), (0, .ref m0), (1, .int kd), (2, .int f), (3, .int d), (4, .int wk), (5, .int law), (6, .int as), (7, .int fg), (9, .int look), (10, .int (nI w)), (11, .int x11), (12, .int ((att w) - (wal w))), (13, .int (nI j)), (14, .int 0)]) hx hb dX5_dayOf_2_216 hl (by decide) rfl (fun ls hl => ?_)
                                exact K_218 1 (by clear hl hP hK hts hD hS hA ih_68 K_326 ih_127 K_218; clear hv hB htn hwk has hX hfr9 hfew; subst hx11; grind [bI]) H locs ls hP hD hS (lv_sub hl [1, 2, 3, 4, 5, 6, 7, 8, 9, 10, 11, 12, 13, 14, 0] rfl)
                            · skip
                              refine lv_iload hx hb dX5_dayOf_2_192 (lv_at hl 7 rfl) ?_
                              refine lv_bipush (v := 7) hx hb dX5_dayOf_2_194 (by decide) ?_
                              refine lv_icmp_ne (tgt := 211) hx hb dX5_dayOf_2_196 (by decide) (fun c_196_2 => ?_) (fun c_196_2 => ?_)
                              · skip
                                refine lv_iconst (v := 1) hx hb dX5_dayOf_2_211 (by decide) ?_
                                refine lv_goto (tgt := 216) hx hb dX5_dayOf_2_212 (by decide) ?_
                                refine lv_istore (lv' := [(15, .int 1), (0, .ref m0), (1, .int kd), (2, .int f), (3, .int d), (4, .int wk), (5, .int law), (6, .int as), (7, .int fg), (9, .int look), (10, .int (nI w)), (11, .int x11), (12, .int ((att w) - (wal w))), (13, .int (nI j)), (14, .int 0)]) hx hb dX5_dayOf_2_216 hl (by decide) rfl (fun ls hl => ?_)
                                exact K_218 1 (by clear hl hP hK hts hD hS hA ih_68 K_326 ih_127 K_218; clear hv hB htn hwk has hX hfr9 hfew; subst hx11; grind [bI]) H locs ls hP hD hS (lv_sub hl [1, 2, 3, 4, 5, 6, 7, 8, 9, 10, 11, 12, 13, 14, 0] rfl)
                              · skip
                                refine lv_iload hx hb dX5_dayOf_2_199 (lv_at hl 6 rfl) ?_
                                refine lv_iload hx hb dX5_dayOf_2_201 (lv_at hl 13 rfl) ?_
                                refine ro_S (rest := []) (As := [.int law, .int (nI j)]) (wc := []) ⟨hx, hb, hml, hown, hts⟩ (met_X5_priceBy law (nI j)) (va_cwS 2 hts (lw_S q1237 q1238 q46 q1239) rfl rfl rfl hdS_X5_priceBy ⟨(Nat.le_trans (m := 4) (Nat.le_of_ble_eq_true rfl) hfr), (Nat.le_trans (m := 192) (Nat.le_of_ble_eq_true rfl) hlc)⟩) hK hP [] rfl rfl hl.1 rfl (Nat.le_of_ble_eq_true rfl) dX5_dayOf_2_203 ⟨Nat.le_of_ble_eq_true rfl, Nat.le_of_ble_eq_true rfl⟩ (fun r_203_4 h_203_4 => ?_)
                                obtain rfl : r_203_4 = sp_by law (nI j) := h_203_4
                                refine lv_iload hx hb dX5_dayOf_2_206 (lv_at hl 8 rfl) ?_
                                refine lv_icmp_gt (tgt := 215) hx hb dX5_dayOf_2_208 (by decide) (fun c_208_4 => ?_) (fun c_208_4 => ?_)
                                · skip
                                  refine lv_iconst (v := 0) hx hb dX5_dayOf_2_215 (by decide) ?_
                                  refine lv_istore (lv' := [(15, .int 0), (0, .ref m0), (1, .int kd), (2, .int f), (3, .int d), (4, .int wk), (5, .int law), (6, .int as), (7, .int fg), (9, .int look), (10, .int (nI w)), (11, .int x11), (12, .int ((att w) - (wal w))), (13, .int (nI j)), (14, .int 0)]) hx hb dX5_dayOf_2_216 hl (by decide) rfl (fun ls hl => ?_)
                                  exact K_218 0 (by clear hl hP hK hts hD hS hA ih_68 K_326 ih_127 K_218; clear hv hB htn hwk has hX hfr9 hfew; subst hx11; grind [bI]) H locs ls hP hD hS (lv_sub hl [1, 2, 3, 4, 5, 6, 7, 8, 9, 10, 11, 12, 13, 14, 0] rfl)
                                · skip
                                  refine lv_iconst (v := 1) hx hb dX5_dayOf_2_211 (by decide) ?_
                                  refine lv_goto (tgt := 216) hx hb dX5_dayOf_2_212 (by decide) ?_
                                  refine lv_istore (lv' := [(15, .int 1), (0, .ref m0), (1, .int kd), (2, .int f), (3, .int d), (4, .int wk), (5, .int law), (6, .int as), (7, .int fg), (9, .int look), (10, .int (nI w)), (11, .int x11), (12, .int ((att w) - (wal w))), (13, .int (nI j)), (14, .int 0)]) hx hb dX5_dayOf_2_216 hl (by decide) rfl (fun ls hl => ?_)
                                  exact K_218 1 (by clear hl hP hK hts hD hS hA ih_68 K_326 ih_127 K_218; clear hv hB htn hwk has hX hfr9 hfew; subst hx11; grind [bI]) H locs ls hP hD hS (lv_sub hl [1, 2, 3, 4, 5, 6, 7, 8, 9, 10, 11, 12, 13, 14, 0] rfl)
                    · skip
                      have c_145 := bI_ne0 (P := sp_plan pla (nI j) pn = true) rfl c_145
                      refine lv_iconst (v := 1) hx hb dX5_dayOf_2_148 (by decide) ?_
                      refine lv_goto (tgt := 153) hx hb dX5_dayOf_2_149 (by decide) ?_
                      refine lv_istore (lv' := [(15, .int 1), (0, .ref m0), (1, .int kd), (2, .int f), (3, .int d), (4, .int wk), (5, .int law), (6, .int as), (7, .int fg), (9, .int look), (10, .int (nI w)), (11, .int x11), (12, .int ((att w) - (wal w))), (13, .int (nI j)), (14, .int 0)]) hx hb dX5_dayOf_2_153 hl (by decide) rfl (fun ls hl => ?_)
                      refine lv_iload hx hb dX5_dayOf_2_155 (lv_at hl 7 rfl) ?_
                      refine ro_S (rest := []) (As := [.int as]) (wc := []) ⟨hx, hb, hml, hown, hts⟩ (met_X5_isClock as) (va_cwS 1 hts (lw_S q1295 q1296 q46 q1297) rfl rfl rfl hdS_X5_isClock ⟨(Nat.le_trans (m := 4) (Nat.le_of_ble_eq_true rfl) hfr), (Nat.le_trans (m := 192) (Nat.le_of_ble_eq_true rfl) hlc)⟩) hK hP [] rfl rfl hl.1 rfl (Nat.le_of_ble_eq_true rfl) dX5_dayOf_2_157 ⟨Nat.le_of_ble_eq_true rfl, Nat.le_of_ble_eq_true rfl⟩ (fun r_157_3 h_157_3 => ?_)
                      obtain rfl : r_157_3 = bI (sp_clock as) := h_157_3
                      refine lv_if_eq (tgt := 218) hx hb dX5_dayOf_2_160 (by decide) (fun c_160_3 => ?_) (fun c_160_3 => ?_)
                      · skip
                        have c_160_3 := bI_eq0 (P := sp_clock as) rfl c_160_3
                        exact K_218 1 (by clear hl hP hK hts hD hS hA ih_68 K_326 ih_127 K_218; clear hv hB htn hwk has hX hfr9 hfew; subst hx11; grind [bI]) H locs ls hP hD hS (lv_sub hl [1, 2, 3, 4, 5, 6, 7, 8, 9, 10, 11, 12, 13, 14, 0] rfl)
                      · skip
                        have c_160_3 := bI_ne0 (P := sp_clock as) rfl c_160_3
                        refine lv_iload hx hb dX5_dayOf_2_163 (lv_at hl 11 rfl) ?_
                        refine lv_if_ne (tgt := 218) hx hb dX5_dayOf_2_165 (by decide) (fun c_165_3 => ?_) (fun c_165_3 => ?_)
                        · skip
                          exact K_218 1 (by clear hl hP hK hts hD hS hA ih_68 K_326 ih_127 K_218; clear hv hB htn hwk has hX hfr9 hfew; subst hx11; grind [bI]) H locs ls hP hD hS (lv_sub hl [1, 2, 3, 4, 5, 6, 7, 8, 9, 10, 11, 12, 13, 14, 0] rfl)
                        · skip
                          refine lv_iload_n hx hb dX5_dayOf_2_168 rfl (lv_at hl 4 rfl) ?_
                          refine lv_iload hx hb dX5_dayOf_2_169 (lv_at hl 9 rfl) ?_
                          refine lv_iload hx hb dX5_dayOf_2_171 (lv_at hl 13 rfl) ?_
                          refine ro_S (rest := []) (As := [.int d, .int look, .int (nI j)]) (wc := []) ⟨hx, hb, hml, hown, hts⟩ (met_X5_thought d look (nI j)) (va_cwS 3 hts (lw_S q1272 q1273 q46 q1274) rfl rfl rfl hdS_X5_thought ⟨(Nat.le_trans (m := 4) (Nat.le_of_ble_eq_true rfl) hfr), (Nat.le_trans (m := 192) (Nat.le_of_ble_eq_true rfl) hlc)⟩) hK hP [] rfl rfl hl.1 rfl (Nat.le_of_ble_eq_true rfl) dX5_dayOf_2_173 ⟨Nat.le_of_ble_eq_true rfl, Nat.le_of_ble_eq_true rfl⟩ (fun r_173_3 h_173_3 => ?_)
                          obtain rfl : r_173_3 = sp_th d look (nI j) := h_173_3
                          refine lv_iload hx hb dX5_dayOf_2_176 (lv_at hl 12 rfl) ?_
                          refine lv_iconst (v := 5) hx hb dX5_dayOf_2_178 (by decide) ?_
                          refine lv_iload hx hb dX5_dayOf_2_179 (lv_at hl 8 rfl) ?_
                          refine lv_imul hx hb dX5_dayOf_2_181 ?_
                          refine lv_isub hx hb dX5_dayOf_2_182 ?_
                          refine lv_icmp_lt (tgt := 218) hx hb dX5_dayOf_2_183 (by decide) (fun c_183_3 => ?_) (fun c_183_3 => ?_)
                          · skip
                            exact K_218 1 (by clear hl hP hK hts hD hS hA ih_68 K_326 ih_127 K_218; clear hv hB htn hwk has hX hfr9 hfew; subst hx11; grind [bI]) H locs ls hP hD hS (lv_sub hl [1, 2, 3, 4, 5, 6, 7, 8, 9, 10, 11, 12, 13, 14, 0] rfl)
                          · skip
                            refine lv_iload hx hb dX5_dayOf_2_186 (lv_at hl 7 rfl) ?_
                            refine lv_iconst (v := 3) hx hb dX5_dayOf_2_188 (by decide) ?_
                            refine lv_icmp_eq (tgt := 199) hx hb dX5_dayOf_2_189 (by decide) (fun c_189_3 => ?_) (fun c_189_3 => ?_)
                            · skip
                              refine lv_iload hx hb dX5_dayOf_2_199 (lv_at hl 6 rfl) ?_
                              refine lv_iload hx hb dX5_dayOf_2_201 (lv_at hl 13 rfl) ?_
                              refine ro_S (rest := []) (As := [.int law, .int (nI j)]) (wc := []) ⟨hx, hb, hml, hown, hts⟩ (met_X5_priceBy law (nI j)) (va_cwS 2 hts (lw_S q1237 q1238 q46 q1239) rfl rfl rfl hdS_X5_priceBy ⟨(Nat.le_trans (m := 4) (Nat.le_of_ble_eq_true rfl) hfr), (Nat.le_trans (m := 192) (Nat.le_of_ble_eq_true rfl) hlc)⟩) hK hP [] rfl rfl hl.1 rfl (Nat.le_of_ble_eq_true rfl) dX5_dayOf_2_203 ⟨Nat.le_of_ble_eq_true rfl, Nat.le_of_ble_eq_true rfl⟩ (fun r_203_5 h_203_5 => ?_)
                              obtain rfl : r_203_5 = sp_by law (nI j) := h_203_5
                              refine lv_iload hx hb dX5_dayOf_2_206 (lv_at hl 8 rfl) ?_
                              refine lv_icmp_gt (tgt := 215) hx hb dX5_dayOf_2_208 (by decide) (fun c_208_5 => ?_) (fun c_208_5 => ?_)
                              · skip
                                refine lv_iconst (v := 0) hx hb dX5_dayOf_2_215 (by decide) ?_
                                refine lv_istore (lv' := [(15, .int 0), (0, .ref m0), (1, .int kd), (2, .int f), (3, .int d), (4, .int wk), (5, .int law), (6, .int as), (7, .int fg), (9, .int look), (10, .int (nI w)), (11, .int x11), (12, .int ((att w) - (wal w))), (13, .int (nI j)), (14, .int 0)]) hx hb dX5_dayOf_2_216 hl (by decide) rfl (fun ls hl => ?_)
                                exact K_218 0 (by clear hl hP hK hts hD hS hA ih_68 K_326 ih_127 K_218; clear hv hB htn hwk has hX hfr9 hfew; subst hx11; grind [bI]) H locs ls hP hD hS (lv_sub hl [1, 2, 3, 4, 5, 6, 7, 8, 9, 10, 11, 12, 13, 14, 0] rfl)
                              · skip
                                refine lv_iconst (v := 1) hx hb dX5_dayOf_2_211 (by decide) ?_
                                refine lv_goto (tgt := 216) hx hb dX5_dayOf_2_212 (by decide) ?_
                                refine lv_istore (lv' := [(15, .int 1), (0, .ref m0), (1, .int kd), (2, .int f), (3, .int d), (4, .int wk), (5, .int law), (6, .int as), (7, .int fg), (9, .int look), (10, .int (nI w)), (11, .int x11), (12, .int ((att w) - (wal w))), (13, .int (nI j)), (14, .int 0)]) hx hb dX5_dayOf_2_216 hl (by decide) rfl (fun ls hl => ?_)
                                exact K_218 1 (by clear hl hP hK hts hD hS hA ih_68 K_326 ih_127 K_218; clear hv hB htn hwk has hX hfr9 hfew; subst hx11; grind [bI]) H locs ls hP hD hS (lv_sub hl [1, 2, 3, 4, 5, 6, 7, 8, 9, 10, 11, 12, 13, 14, 0] rfl)
                            · skip
                              refine lv_iload hx hb dX5_dayOf_2_192 (lv_at hl 7 rfl) ?_
                              refine lv_bipush (v := 7) hx hb dX5_dayOf_2_194 (by decide) ?_
                              refine lv_icmp_ne (tgt := 211) hx hb dX5_dayOf_2_196 (by decide) (fun c_196_3 => ?_) (fun c_196_3 => ?_)
                              · skip
                                refine lv_iconst (v := 1) hx hb dX5_dayOf_2_211 (by decide) ?_
                                refine lv_goto (tgt := 216) hx hb dX5_dayOf_2_212 (by decide) ?_
                                refine lv_istore (lv' := [(15, .int 1), (0, .ref m0), (1, .int kd), (2, .int f), (3, .int d), (4, .int wk), (5, .int law), (6, .int as), (7, .int fg), (9, .int look), (10, .int (nI w)), (11, .int x11), (12, .int ((att w) - (wal w))), (13, .int (nI j)), (14, .int 0)]) hx hb dX5_dayOf_2_216 hl (by decide) rfl (fun ls hl => ?_)
                                exact K_218 1 (by clear hl hP hK hts hD hS hA ih_68 K_326 ih_127 K_218; clear hv hB htn hwk has hX hfr9 hfew; subst hx11; grind [bI]) H locs ls hP hD hS (lv_sub hl [1, 2, 3, 4, 5, 6, 7, 8, 9, 10, 11, 12, 13, 14, 0] rfl)
                              · skip
                                refine lv_iload hx hb dX5_dayOf_2_199 (lv_at hl 6 rfl) ?_
                                refine lv_iload hx hb dX5_dayOf_2_201 (lv_at hl 13 rfl) ?_
                                refine ro_S (rest := []) (As := [.int law, .int (nI j)]) (wc := []) ⟨hx, hb, hml, hown, hts⟩ (met_X5_priceBy law (nI j)) (va_cwS 2 hts (lw_S q1237 q1238 q46 q1239) rfl rfl rfl hdS_X5_priceBy ⟨(Nat.le_trans (m := 4) (Nat.le_of_ble_eq_true rfl) hfr), (Nat.le_trans (m := 192) (Nat.le_of_ble_eq_true rfl) hlc)⟩) hK hP [] rfl rfl hl.1 rfl (Nat.le_of_ble_eq_true rfl) dX5_dayOf_2_203 ⟨Nat.le_of_ble_eq_true rfl, Nat.le_of_ble_eq_true rfl⟩ (fun r_203_6 h_203_6 => ?_)
                                obtain rfl : r_203_6 = sp_by law (nI j) := h_203_6
                                refine lv_iload hx hb dX5_dayOf_2_206 (lv_at hl 8 rfl) ?_
                                refine lv_icmp_gt (tgt := 215) hx hb dX5_dayOf_2_208 (by decide) (fun c_208_6 => ?_) (fun c_208_6 => ?_)
                                · skip
                                  refine lv_iconst (v := 0) hx hb dX5_dayOf_2_215 (by decide) ?_
                                  refine lv_istore (lv' := [(15, .int 0), (0, .ref m0), (1, .int kd), (2, .int f), (3, .int d), (4, .int wk), (5, .int law), (6, .int as), (7, .int fg), (9, .int look), (10, .int (nI w)), (11, .int x11), (12, .int ((att w) - (wal w))), (13, .int (nI j)), (14, .int 0)]) hx hb dX5_dayOf_2_216 hl (by decide) rfl (fun ls hl => ?_)
                                  exact K_218 0 (by clear hl hP hK hts hD hS hA ih_68 K_326 ih_127 K_218; clear hv hB htn hwk has hX hfr9 hfew; subst hx11; grind [bI]) H locs ls hP hD hS (lv_sub hl [1, 2, 3, 4, 5, 6, 7, 8, 9, 10, 11, 12, 13, 14, 0] rfl)
                                · skip
                                  refine lv_iconst (v := 1) hx hb dX5_dayOf_2_211 (by decide) ?_
                                  refine lv_goto (tgt := 216) hx hb dX5_dayOf_2_212 (by decide) ?_
                                  refine lv_istore (lv' := [(15, .int 1), (0, .ref m0), (1, .int kd), (2, .int f), (3, .int d), (4, .int wk), (5, .int law), (6, .int as), (7, .int fg), (9, .int look), (10, .int (nI w)), (11, .int x11), (12, .int ((att w) - (wal w))), (13, .int (nI j)), (14, .int 0)]) hx hb dX5_dayOf_2_216 hl (by decide) rfl (fun ls hl => ?_)
                                  exact K_218 1 (by clear hl hP hK hts hD hS hA ih_68 K_326 ih_127 K_218; clear hv hB htn hwk has hX hfr9 hfew; subst hx11; grind [bI]) H locs ls hP hD hS (lv_sub hl [1, 2, 3, 4, 5, 6, 7, 8, 9, 10, 11, 12, 13, 14, 0] rfl)
            exact K_127 720 0 (dLk X) i0 (dPd X) (dN X) (dKd X) false rfl (by omega) (by omega) (Nat.le_refl _) (by rw [hfe, nI_clamp (by omega)] at hfew; exact hfew) (by rw [hfe, nI_clamp (by omega)]) H locs ls hP hD hS (lv_sub hl [4, 5, 6, 7, 8, 9, 10, 11, 13, 14, 3, 2, 1, 0] rfl)
    exact K_68 (wn + 1) 0 (wk, wk, 0, 0, lk1, 0, 0, 0, cm1) (by omega) (by omega) rfl (by obtain ⟨i, h1, h2⟩ := ix_lit 720 (by decide) (by decide) hwk; exact ⟨i, by omega, h2⟩) ⟨fun _ => Nat.zero_le _, fun _ => Nat.zero_le _⟩ H locs ls hP hD hS (lv_sub hl [3, 4, 5, 6, 7, 8, 9, 10, 2, 1, 0] rfl)
  refine lv_iload_n hx hb dX5_dayOf_2_0 rfl (lv_at hl 1 rfl) ?_
  refine lv_iconst (v := 4) hx hb dX5_dayOf_2_1 (by decide) ?_
  refine lv_icmp_ne (tgt := 9) hx hb dX5_dayOf_2_2 (by decide) (fun c_2 => ?_) (fun c_2 => ?_)
  · skip
    refine lv_iload_n hx hb dX5_dayOf_2_9 rfl (lv_at hl 1 rfl) ?_
    refine lv_istore (lv' := [(6, .int kd), (0, .ref m0), (1, .int kd), (2, .int f), (3, .int d), (4, .int wk), (5, .int law)]) hx hb dX5_dayOf_2_10 hl (by decide) rfl (fun ls hl => ?_)
    refine lv_iload_n hx hb dX5_dayOf_2_12 rfl (lv_at hl 2 rfl) ?_
    refine lv_iconst (v := 4) hx hb dX5_dayOf_2_13 (by decide) ?_
    refine lv_icmp_ne (tgt := 29) hx hb dX5_dayOf_2_14 (by decide) (fun c_14 => ?_) (fun c_14 => ?_)
    · skip
      refine lv_iload_n hx hb dX5_dayOf_2_29 rfl (lv_at hl 3 rfl) ?_
      refine lv_istore (lv' := [(7, .int f), (6, .int kd), (0, .ref m0), (1, .int kd), (2, .int f), (3, .int d), (4, .int wk), (5, .int law)]) hx hb dX5_dayOf_2_30 hl (by decide) rfl (fun ls hl => ?_)
      exact K_32 kd f v lkd cam (fun _ _ => rfl) (if_neg c_2) H locs ls hP hD hS (lv_sub hl [2, 3, 4, 5, 6, 7, 1, 0] rfl)
    · skip
      exact absurd c_14 c_2
  · skip
    refine lv_iconst (v := 2) hx hb dX5_dayOf_2_5 (by decide) ?_
    refine lv_goto (tgt := 10) hx hb dX5_dayOf_2_6 (by decide) ?_
    refine lv_istore (lv' := [(6, .int 2), (0, .ref m0), (1, .int kd), (2, .int f), (3, .int d), (4, .int wk), (5, .int law)]) hx hb dX5_dayOf_2_10 hl (by decide) rfl (fun ls hl => ?_)
    refine lv_iload_n hx hb dX5_dayOf_2_12 rfl (lv_at hl 2 rfl) ?_
    refine lv_iconst (v := 4) hx hb dX5_dayOf_2_13 (by decide) ?_
    refine lv_icmp_ne (tgt := 29) hx hb dX5_dayOf_2_14 (by decide) (fun c_14_2 => ?_) (fun c_14_2 => ?_)
    · skip
      exact absurd c_2 c_14_2
    · skip
      refine lv_aload_n hx hb dX5_dayOf_2_17 rfl (lv_at hl 1 rfl) ?_
      refine lv_iload_n hx hb dX5_dayOf_2_18 rfl (lv_at hl 4 rfl) ?_
      refine lv_iload hx hb dX5_dayOf_2_19 (lv_at hl 5 rfl) ?_
      refine lv_iload hx hb dX5_dayOf_2_21 (lv_at hl 6 rfl) ?_
      refine rw_i (wr := []) (rw_V (rest := []) (As := [.int d, .int wk, .int law]) (wc := [(m0, .inr (4, moF a v)), ((a 0), .inl (dA 0, 4, .inl (mn4 wn kn pn lw))), ((a 1), .inl (dA 0, 5, .inl att)), ((a 2), .inl (dA 0, 5, .inl wal)), ((a 3), .inl (dA 0, 5, .inl fin)), ((a 8), .inl (dA 0, 8, .inl pla)), ((a 21), .inl (dA 0, 16, .inl lkd)), ((a 25), .inl (dA 0, 5, .inl cam))]) ⟨hx, hb, hml, hown, hts⟩ ((hB c_2).2 _ v lkd cam) (cwV 3 hts (lw_V q1287 q1289 qs28 q46 q1290) rfl rfl rfl hdV_X5_bestOf ⟨(hB c_2).1.1, (Nat.le_trans (m := 500) (Nat.le_of_ble_eq_true rfl) (hB c_2).1.2)⟩) hK hP hD [0, 1, 2, 3, 4, 5, 6, 7] rfl (by decide) (va_recv hK.1 hP (ci := 4) (q0 := 0) rfl rfl) rfl hl.1 rfl (Nat.le_of_ble_eq_true rfl) dX5_dayOf_2_23 ⟨Nat.le_of_ble_eq_true rfl, Nat.le_of_ble_eq_true rfl⟩) hP hD hS hA [0, 1, 2, 3, 4, 5, 6, 7] [] rfl rfl (by decide) (by decide) (fun r_23 u_23 H locs h_23 hz_23 hP hD hS => ?_)
      obtain ⟨v2_23, lkd2_23, cam2_23⟩ := u_23
      have hP : va_P (dC, dI) vwCl [(m0, .inr (4, moF a v2_23)), ((a 0), .inl (dA 0, 4, .inl (mn4 wn kn pn lw))), ((a 1), .inl (dA 0, 5, .inl att)), ((a 2), .inl (dA 0, 5, .inl wal)), ((a 3), .inl (dA 0, 5, .inl fin)), ((a 8), .inl (dA 0, 8, .inl pla)), ((a 21), .inl (dA 0, 16, .inl lkd2_23)), ((a 25), .inl (dA 0, 5, .inl cam2_23))] H := hP
      have hD : va_D A [(m0, .inr (4, moF a v2_23)), ((a 0), .inl (dA 0, 4, .inl (mn4 wn kn pn lw))), ((a 1), .inl (dA 0, 5, .inl att)), ((a 2), .inl (dA 0, 5, .inl wal)), ((a 3), .inl (dA 0, 5, .inl fin)), ((a 8), .inl (dA 0, 8, .inl pla)), ((a 21), .inl (dA 0, 16, .inl lkd2_23)), ((a 25), .inl (dA 0, 5, .inl cam2_23))] := hD
      have f_23 : sp_vk v2_23 v := h_23.2
      obtain rfl : r_23 = nI (sp_best d law wk pn pla att wal fin wn) := h_23.1
      refine lv_goto (tgt := 30) hx hb dX5_dayOf_2_26 (by decide) ?_
      refine lv_istore (lv' := [(7, .int (nI (sp_best d law wk pn pla att wal fin wn))), (6, .int 2), (0, .ref m0), (1, .int kd), (2, .int f), (3, .int d), (4, .int wk), (5, .int law)]) hx hb dX5_dayOf_2_30 hl (by decide) rfl (fun ls hl => ?_)
      exact K_32 2 (nI (sp_best d law wk pn pla att wal fin wn)) v2_23 lkd2_23 cam2_23 f_23 (if_pos c_2) H locs ls hP hD hS (lv_sub hl [2, 3, 4, 5, 6, 7, 1, 0] rfl)
