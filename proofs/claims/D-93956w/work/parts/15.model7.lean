/-! what is asked of days -/
/-- the day of the looker kk -/
def sp_lk (knd fig dri wak : Nat → Int32) (lw : Int32) (pn : Nat) (pla att wal fin : Nat → Int32) (wn kk : Nat) : DS := sp_any (knd kk) (fig kk) (dri kk) lw (wak kk) pn pla att wal fin wn
def sp_dayr (x : DS) (what : Int32) : Int32 := if what = 0 then sp_cost x else if what = 1 then nI (dN x) else if what = 2 then dLt x else if what = 3 then dId x else dPd x
def sp_dayq (kn : Nat) (S : Nat → DS) (k what : Int32) : Int32 := if 0 ≤ k ∧ k ≤ nI kn - 1 then if 0 ≤ what ∧ what ≤ 4 then sp_dayr (S k.toNatClampNeg) what else -1 else -1
def sp_lookq (kn : Nat) (S : Nat → DS) (k i : Int32) : Int32 := if 0 ≤ k ∧ k ≤ nI kn - 1 then if i < 0 then -1 else if i < nI (dN (S k.toNatClampNeg)) then dKd (S k.toNatClampNeg) i.toNatClampNeg else -4 else -1
def sp_comesq (kn wn : Nat) (S : Nat → DS) (k w : Int32) : Int32 := if 0 ≤ k ∧ k ≤ nI kn - 1 then if 0 ≤ w ∧ w ≤ nI wn - 1 then dCm (S k.toNatClampNeg) w.toNatClampNeg else -1 else -1
def sp_bfq (kn : Nat) (B : Nat → Nat) (k : Int32) : Int32 := if 0 ≤ k ∧ k ≤ nI kn - 1 then nI (B k.toNatClampNeg) else -1
/-- the first of the figures with P -/
def sp_fst (P : Nat → Bool) : Nat → Nat → Int32
  | 0, _ => -4
  | F + 1, f => if 10 ≤ f then -4 else if P f = true then nI f else sp_fst P F (f + 1)
def sp_fstq (kn : Nat) (P : Nat → Nat → Bool) (k : Int32) : Int32 := if 0 ≤ k ∧ k ≤ nI kn - 1 then sp_fst (P k.toNatClampNeg) 11 0 else -1
def sp_edgeq (kn wn : Nat) (P : Nat → Nat → Nat → Bool) (k w : Int32) : Int32 := if 0 ≤ k ∧ k ≤ nI kn - 1 then if 0 ≤ w ∧ w ≤ nI wn - 1 then sp_fst (P k.toNatClampNeg w.toNatClampNeg) 11 0 else -1 else -1
def sp_paysq (kn : Nat) (C0 C1 : Nat → Int32) (k : Int32) : Int32 := if 0 ≤ k ∧ k ≤ nI kn - 1 then C0 k.toNatClampNeg - C1 k.toNatClampNeg else -1000000001
def sp_bylawq (kn : Nat) (C : Nat → Int32) (k n : Int32) : Int32 := if 0 ≤ k ∧ k ≤ nI kn - 1 then if 0 ≤ n ∧ n ≤ 2 then C k.toNatClampNeg else -1 else -1
def sp_sumc (C : Nat → Int32) : Nat → Int32
  | 0 => 0
  | k + 1 => sp_sumc C k + C k
theorem vk_rf (v : Nat → Int32) : sp_vk v v := fun _ _ => rfl
theorem vk_tr {v1 v2 v3 : Nat → Int32} (h1 : sp_vk v1 v2) (h2 : sp_vk v2 v3) : sp_vk v1 v3 := fun i hi => (h1 i hi).trans (h2 i hi)
set_option maxHeartbeats 4000000 in
set_option maxRecDepth 100000 in
theorem met_X5_bestOf {l : Launch} {dC : Nat → ClassId} {dI : Nat → Nat → Nat} {dA : Nat → ClassId} (sz : Nat) (m0 : Nat) (a : Nat → Nat) (v : Nat → Int32) (wn : Nat) (kn : Nat) (pn : Nat) (lw : Int32) (att : Nat → Int32) (wal : Nat → Int32) (fin : Nat → Int32) (pla : Nat → Int32) (lkd : Nat → Int32) (cam : Nat → Int32) (d : Int32) (wk : Int32) (law : Int32) (hw5 : wn ≤ 5) (hp8 : pn ≤ 8) (htn : ∀ w, w < wn → (0 ≤ att w ∧ att w ≤ 719) ∧ (0 ≤ wal w ∧ wal w ≤ 59)) (hwk : 0 ≤ wk ∧ wk ≤ 719) : Met l yX5_bestOf (ws_ yX5_bestOf cX5_bestOf 8 (some .int)) ({ frames := 6, cells := 0, slots := 0, locals := 400 } : Room) (RwP dC dI dA [.ref m0, .int d, .int wk, .int law] [(m0, .inr (4, moF a v)), ((a 0), .inl (dA 0, 4, .inl (mn4 wn kn pn lw))), ((a 1), .inl (dA 0, 5, .inl att)), ((a 2), .inl (dA 0, 5, .inl wal)), ((a 3), .inl (dA 0, 5, .inl fin)), ((a 8), .inl (dA 0, 8, .inl pla)), ((a 21), .inl (dA 0, 16, .inl lkd)), ((a 25), .inl (dA 0, 5, .inl cam))] sz) (va_Qi (fun (r : Int32) (u : (Nat → Int32) × (Nat → Int32) × (Nat → Int32)) => r = nI (sp_best d law wk pn pla att wal fin wn) ∧ sp_vk u.1 v) (RwB dC dI (va_A [(m0, .inr (4, moF a v)), ((a 0), .inl (dA 0, 4, .inl (mn4 wn kn pn lw))), ((a 1), .inl (dA 0, 5, .inl att)), ((a 2), .inl (dA 0, 5, .inl wal)), ((a 3), .inl (dA 0, 5, .inl fin)), ((a 8), .inl (dA 0, 8, .inl pla)), ((a 21), .inl (dA 0, 16, .inl lkd)), ((a 25), .inl (dA 0, 5, .inl cam))] sz) (fun (u : (Nat → Int32) × (Nat → Int32) × (Nat → Int32)) => [(m0, .inr (4, moF a u.1)), ((a 0), .inl (dA 0, 4, .inl (mn4 wn kn pn lw))), ((a 1), .inl (dA 0, 5, .inl att)), ((a 2), .inl (dA 0, 5, .inl wal)), ((a 3), .inl (dA 0, 5, .inl fin)), ((a 8), .inl (dA 0, 8, .inl pla)), ((a 21), .inl (dA 0, 16, .inl u.2.1)), ((a 25), .inl (dA 0, 5, .inl u.2.2))])) (va_A [(m0, .inr (4, moF a v)), ((a 0), .inl (dA 0, 4, .inl (mn4 wn kn pn lw))), ((a 1), .inl (dA 0, 5, .inl att)), ((a 2), .inl (dA 0, 5, .inl wal)), ((a 3), .inl (dA 0, 5, .inl fin)), ((a 8), .inl (dA 0, 8, .inl pla)), ((a 21), .inl (dA 0, 16, .inl lkd)), ((a 25), .inl (dA 0, 5, .inl cam))] sz)) 0 0 (va_A [(m0, .inr (4, moF a v)), ((a 0), .inl (dA 0, 4, .inl (mn4 wn kn pn lw))), ((a 1), .inl (dA 0, 5, .inl att)), ((a 2), .inl (dA 0, 5, .inl wal)), ((a 3), .inl (dA 0, 5, .inl fin)), ((a 8), .inl (dA 0, 8, .inl pla)), ((a 21), .inl (dA 0, 16, .inl lkd)), ((a 25), .inl (dA 0, 5, .inl cam))] sz) := by
  refine ofRw (cc := cX5_bestOf) (maxL := 8) (ret := (some .int)) (Qf := fun A => va_Qi (fun (r : Int32) (u : (Nat → Int32) × (Nat → Int32) × (Nat → Int32)) => r = nI (sp_best d law wk pn pla att wal fin wn) ∧ sp_vk u.1 v) (RwB dC dI A (fun (u : (Nat → Int32) × (Nat → Int32) × (Nat → Int32)) => [(m0, .inr (4, moF a u.1)), ((a 0), .inl (dA 0, 4, .inl (mn4 wn kn pn lw))), ((a 1), .inl (dA 0, 5, .inl att)), ((a 2), .inl (dA 0, 5, .inl wal)), ((a 3), .inl (dA 0, 5, .inl fin)), ((a 8), .inl (dA 0, 8, .inl pla)), ((a 21), .inl (dA 0, 16, .inl u.2.1)), ((a 25), .inl (dA 0, 5, .inl u.2.2))])) A) (by decide) rfl (fun w h => List.mem_cons_of_mem _ h) (Nat.le_of_ble_eq_true rfl) ?_
  intro p e s m below meth c ls A hx hb hr hlocks hml hts hown hP hK hD hA hnm hsz hl
  have hS : va_S A s.heap s.heap [] := va_S.rf
  obtain ⟨H, hHe⟩ : ∃ H, H = s.heap := ⟨_, rfl⟩
  obtain ⟨locs, hlo⟩ : ∃ z : List Loc, z = [] := ⟨_, rfl⟩
  have hS : va_S A s.heap H locs := by rw [hHe, hlo]; exact hS
  suffices K0 : W p l e _ s m _ below meth c H locs 0 0 _ _ by rw [hHe, hlo] at K0; exact K0
  rw [← hHe] at hP
  have hown : s.vm.findClass RX5 = some m.cls := hown
  have hl : lv_has ls 8 [(0, .ref m0), (1, .int d), (2, .int wk), (3, .int law)] := hl
  refine lv_iconst (v := 0) hx hb dX5_bestOf_0 (by decide) ?_
  refine lv_istore (lv' := [(4, .int 0), (0, .ref m0), (1, .int d), (2, .int wk), (3, .int law)]) hx hb dX5_bestOf_1 hl (by decide) rfl (fun ls hl => ?_)
  refine lv_aload_n hx hb dX5_bestOf_3 rfl (lv_at hl 1 rfl) ?_
  refine lv_iconst (v := 2) hx hb dX5_bestOf_4 (by decide) ?_
  refine lv_iconst (v := 0) hx hb dX5_bestOf_5 (by decide) ?_
  refine lv_iload_n hx hb dX5_bestOf_6 rfl (lv_at hl 2 rfl) ?_
  refine lv_iload_n hx hb dX5_bestOf_7 rfl (lv_at hl 3 rfl) ?_
  refine lv_iload_n hx hb dX5_bestOf_8 rfl (lv_at hl 4 rfl) ?_
  refine rw_i (wr := []) (rw_V (rest := []) (As := [.int 2, .int 0, .int d, .int wk, .int law]) (wc := [(m0, .inr (4, moF a v)), ((a 0), .inl (dA 0, 4, .inl (mn4 wn kn pn lw))), ((a 1), .inl (dA 0, 5, .inl att)), ((a 2), .inl (dA 0, 5, .inl wal)), ((a 3), .inl (dA 0, 5, .inl fin)), ((a 8), .inl (dA 0, 8, .inl pla)), ((a 21), .inl (dA 0, 16, .inl lkd)), ((a 25), .inl (dA 0, 5, .inl cam))]) ⟨hx, hb, hml, hown, hts⟩ (met_X5_dayOf_2 _ m0 a v wn kn pn lw att wal fin pla lkd cam 2 0 d wk law hw5 hp8 htn hwk 4 192 (by decide) (by decide) (fun h9 => absurd h9 (by decide))) (cwV 5 hts (lw_V q1283 q1285 qs27 q46 q1286) rfl rfl rfl hdV_X5_dayOf_2 ⟨Nat.le_of_ble_eq_true rfl, Nat.le_of_ble_eq_true rfl⟩) hK hP hD [0, 1, 2, 3, 4, 5, 6, 7] rfl (by decide) (va_recv hK.1 hP (ci := 4) (q0 := 0) rfl rfl) rfl hl.1 rfl (Nat.le_of_ble_eq_true rfl) dX5_bestOf_9 ⟨Nat.le_of_ble_eq_true rfl, Nat.le_of_ble_eq_true rfl⟩) hP hD hS hA [0, 1, 2, 3, 4, 5, 6, 7] [] rfl rfl (by decide) (by decide) (fun r_9 u_9 H locs h_9 hz_9 hP hD hS => ?_)
  obtain ⟨v2_9, lkd2_9, cam2_9⟩ := u_9
  have hP : va_P (dC, dI) vwCl [(m0, .inr (4, moF a v2_9)), ((a 0), .inl (dA 0, 4, .inl (mn4 wn kn pn lw))), ((a 1), .inl (dA 0, 5, .inl att)), ((a 2), .inl (dA 0, 5, .inl wal)), ((a 3), .inl (dA 0, 5, .inl fin)), ((a 8), .inl (dA 0, 8, .inl pla)), ((a 21), .inl (dA 0, 16, .inl lkd2_9)), ((a 25), .inl (dA 0, 5, .inl cam2_9))] H := hP
  have hD : va_D A [(m0, .inr (4, moF a v2_9)), ((a 0), .inl (dA 0, 4, .inl (mn4 wn kn pn lw))), ((a 1), .inl (dA 0, 5, .inl att)), ((a 2), .inl (dA 0, 5, .inl wal)), ((a 3), .inl (dA 0, 5, .inl fin)), ((a 8), .inl (dA 0, 8, .inl pla)), ((a 21), .inl (dA 0, 16, .inl lkd2_9)), ((a 25), .inl (dA 0, 5, .inl cam2_9))] := hD
  have f_9 : dyOK (sp_any 2 0 d law wk pn pla att wal fin wn) wn v v2_9 lkd2_9 cam2_9 := h_9.2
  obtain rfl : r_9 = sp_cost (sp_any 2 0 d law wk pn pla att wal fin wn) := h_9.1
  refine lv_istore (lv' := [(5, .int (sp_cost (sp_any 2 0 d law wk pn pla att wal fin wn))), (4, .int 0), (0, .ref m0), (1, .int d), (2, .int wk), (3, .int law)]) hx hb dX5_bestOf_12 hl (by decide) rfl (fun ls hl => ?_)
  refine lv_iconst (v := 1) hx hb dX5_bestOf_14 (by decide) ?_
  refine lv_istore (lv' := [(6, .int 1), (5, .int (sp_cost (sp_any 2 0 d law wk pn pla att wal fin wn))), (4, .int 0), (0, .ref m0), (1, .int d), (2, .int wk), (3, .int law)]) hx hb dX5_bestOf_15 hl (by decide) rfl (fun ls hl => ?_)
  have K_17 : ∀ (fuel : Nat), ∀ (x4 : Int32) (x5 : Int32) (f : Nat) (v1 : Nat → Int32) (lk1 : Nat → Int32) (cm1 : Nat → Int32), (f ≤ 9) → (9 < f + fuel) → (x4 = nI (sp_bst (fun f => sp_cost (sp_day 2 (nI f) d law wk pn pla att wal fin wn)) f).1) → (x5 = (sp_bst (fun f => sp_cost (sp_day 2 (nI f) d law wk pn pla att wal fin wn)) f).2) → (sp_vk v1 v) → ∀ (H : Heap) (locs : List Loc) (ls : Array Slot), va_P (dC, dI) vwCl [(m0, .inr (4, moF a v1)), ((a 0), .inl (dA 0, 4, .inl (mn4 wn kn pn lw))), ((a 1), .inl (dA 0, 5, .inl att)), ((a 2), .inl (dA 0, 5, .inl wal)), ((a 3), .inl (dA 0, 5, .inl fin)), ((a 8), .inl (dA 0, 8, .inl pla)), ((a 21), .inl (dA 0, 16, .inl lk1)), ((a 25), .inl (dA 0, 5, .inl cm1))] H → va_D A [(m0, .inr (4, moF a v1)), ((a 0), .inl (dA 0, 4, .inl (mn4 wn kn pn lw))), ((a 1), .inl (dA 0, 5, .inl att)), ((a 2), .inl (dA 0, 5, .inl wal)), ((a 3), .inl (dA 0, 5, .inl fin)), ((a 8), .inl (dA 0, 8, .inl pla)), ((a 21), .inl (dA 0, 16, .inl lk1)), ((a 25), .inl (dA 0, 5, .inl cm1))] → va_S A s.heap H locs → lv_has ls 8 [(0, .ref m0), (1, .int d), (2, .int wk), (3, .int law), (4, .int x4), (5, .int x5), (6, .int (nI (f + 1)))] → W p l e ({ frames := 6, cells := 0, slots := 0, locals := 400 } : Room) s m ([.ref m0, .int d, .int wk, .int law] : List Value).toArray below meth c H locs 0 0 (MQ below (va_Qi (fun (r : Int32) (u : (Nat → Int32) × (Nat → Int32) × (Nat → Int32)) => r = nI (sp_best d law wk pn pla att wal fin wn) ∧ sp_vk u.1 v) (RwB dC dI A (fun (u : (Nat → Int32) × (Nat → Int32) × (Nat → Int32)) => [(m0, .inr (4, moF a u.1)), ((a 0), .inl (dA 0, 4, .inl (mn4 wn kn pn lw))), ((a 1), .inl (dA 0, 5, .inl att)), ((a 2), .inl (dA 0, 5, .inl wal)), ((a 3), .inl (dA 0, 5, .inl fin)), ((a 8), .inl (dA 0, 8, .inl pla)), ((a 21), .inl (dA 0, 16, .inl u.2.1)), ((a 25), .inl (dA 0, 5, .inl u.2.2))])) A) ([.ref m0, .int d, .int wk, .int law] : List Value).toArray s 0 0 A) (F0 m 17 ls []) := by
    intro fuel
    induction fuel with
    | zero =>
      intro x4 x5 f v1 lk1 cm1 hf0 hf hx4 hx5 hv1 H locs ls hP hD hS hl
      exact absurd hf (by omega)
    | succ fuel ih_17 =>
      intro x4 x5 f v1 lk1 cm1 hf0 hf hx4 hx5 hv1 H locs ls hP hD hS hl
      refine lv_iload hx hb dX5_bestOf_17 (lv_at hl 6 rfl) ?_
      refine lv_bipush (v := 10) hx hb dX5_bestOf_19 (by decide) ?_
      refine lv_icmp_ge (tgt := 57) hx hb dX5_bestOf_21 (by decide) (fun c_21 => ?_) (fun c_21 => ?_)
      · skip
        have n_c_21 : 10 ≤ (f + 1) := (nI_leI (a := 10) (b := (f + 1)) (by omega) (by omega)).mp c_21
        obtain rfl : f = 9 := by omega
        refine lv_iload hx hb dX5_bestOf_57 (lv_at hl 4 rfl) ?_
        refine rt_i hx hb hr hlocks dX5_bestOf_59 hP hD hS (Nat.le_of_ble_eq_true rfl) (Nat.le_of_ble_eq_true rfl) (v1, lk1, cm1) [0, 1, 2, 3, 4, 5, 6, 7] rfl (by decide) ?_
        exact ⟨hx4, hv1⟩
      · skip
        have n_c_21 : ¬ 10 ≤ (f + 1) := fun h9 => c_21 ((nI_leI (a := 10) (b := (f + 1)) (by omega) (by omega)).mpr h9)
        refine lv_aload_n hx hb dX5_bestOf_24 rfl (lv_at hl 0 rfl) ?_
        refine lv_iconst (v := 2) hx hb dX5_bestOf_25 (by decide) ?_
        refine lv_iload hx hb dX5_bestOf_26 (lv_at hl 6 rfl) ?_
        refine lv_iload_n hx hb dX5_bestOf_28 rfl (lv_at hl 1 rfl) ?_
        refine lv_iload_n hx hb dX5_bestOf_29 rfl (lv_at hl 2 rfl) ?_
        refine lv_iload_n hx hb dX5_bestOf_30 rfl (lv_at hl 3 rfl) ?_
        refine rw_i (wr := []) (rw_V (rest := []) (As := [.int 2, .int (nI (f + 1)), .int d, .int wk, .int law]) (wc := [(m0, .inr (4, moF a v1)), ((a 0), .inl (dA 0, 4, .inl (mn4 wn kn pn lw))), ((a 1), .inl (dA 0, 5, .inl att)), ((a 2), .inl (dA 0, 5, .inl wal)), ((a 3), .inl (dA 0, 5, .inl fin)), ((a 8), .inl (dA 0, 8, .inl pla)), ((a 21), .inl (dA 0, 16, .inl lk1)), ((a 25), .inl (dA 0, 5, .inl cm1))]) ⟨hx, hb, hml, hown, hts⟩ (met_X5_dayOf_2 _ m0 a v1 wn kn pn lw att wal fin pla lk1 cm1 2 (nI (f + 1)) d wk law hw5 hp8 htn hwk 4 192 (by decide) (by decide) (fun h9 => absurd h9 (by decide))) (cwV 5 hts (lw_V q1283 q1285 qs27 q46 q1286) rfl rfl rfl hdV_X5_dayOf_2 ⟨Nat.le_of_ble_eq_true rfl, Nat.le_of_ble_eq_true rfl⟩) hK hP hD [0, 1, 2, 3, 4, 5, 6, 7] rfl (by decide) (va_recv hK.1 hP (ci := 4) (q0 := 0) rfl rfl) rfl hl.1 rfl (Nat.le_of_ble_eq_true rfl) dX5_bestOf_31 ⟨Nat.le_of_ble_eq_true rfl, Nat.le_of_ble_eq_true rfl⟩) hP hD hS hA [0, 1, 2, 3, 4, 5, 6, 7] [] rfl rfl (by decide) (by decide) (fun r_31 u_31 H locs h_31 hz_31 hP hD hS => ?_)
        obtain ⟨v2_31, lkd2_31, cam2_31⟩ := u_31
        have hP : va_P (dC, dI) vwCl [(m0, .inr (4, moF a v2_31)), ((a 0), .inl (dA 0, 4, .inl (mn4 wn kn pn lw))), ((a 1), .inl (dA 0, 5, .inl att)), ((a 2), .inl (dA 0, 5, .inl wal)), ((a 3), .inl (dA 0, 5, .inl fin)), ((a 8), .inl (dA 0, 8, .inl pla)), ((a 21), .inl (dA 0, 16, .inl lkd2_31)), ((a 25), .inl (dA 0, 5, .inl cam2_31))] H := hP
        have hD : va_D A [(m0, .inr (4, moF a v2_31)), ((a 0), .inl (dA 0, 4, .inl (mn4 wn kn pn lw))), ((a 1), .inl (dA 0, 5, .inl att)), ((a 2), .inl (dA 0, 5, .inl wal)), ((a 3), .inl (dA 0, 5, .inl fin)), ((a 8), .inl (dA 0, 8, .inl pla)), ((a 21), .inl (dA 0, 16, .inl lkd2_31)), ((a 25), .inl (dA 0, 5, .inl cam2_31))] := hD
        have f_31 : dyOK (sp_any 2 (nI (f + 1)) d law wk pn pla att wal fin wn) wn v1 v2_31 lkd2_31 cam2_31 := h_31.2
        obtain rfl : r_31 = sp_cost (sp_any 2 (nI (f + 1)) d law wk pn pla att wal fin wn) := h_31.1
        refine lv_istore (lv' := [(7, .int (sp_cost (sp_any 2 (nI (f + 1)) d law wk pn pla att wal fin wn))), (0, .ref m0), (1, .int d), (2, .int wk), (3, .int law), (4, .int x4), (5, .int x5), (6, .int (nI (f + 1)))]) hx hb dX5_bestOf_34 hl (by decide) rfl (fun ls hl => ?_)
        refine lv_iload hx hb dX5_bestOf_36 (lv_at hl 0 rfl) ?_
        refine lv_iload hx hb dX5_bestOf_38 (lv_at hl 6 rfl) ?_
        refine lv_icmp_ge (tgt := 51) hx hb dX5_bestOf_40 (by decide) (fun c_40 => ?_) (fun c_40 => ?_)
        · skip
          refine lv_iinc (v := (nI ((f + 1) + 1))) (lv' := [(6, .int (nI ((f + 1) + 1))), (7, .int (sp_cost (sp_any 2 (nI (f + 1)) d law wk pn pla att wal fin wn))), (0, .ref m0), (1, .int d), (2, .int wk), (3, .int law), (4, .int x4), (5, .int x5)]) hx hb dX5_bestOf_51 hl (k := 7) rfl (nI_1 (f + 1)) (by decide) rfl (fun ls hl => ?_)
          refine lv_goto (tgt := 17) hx hb dX5_bestOf_54 (by decide) ?_
          exact ih_17 x4 x5 (f + 1) v2_31 lkd2_31 cam2_31 (by omega) (by omega) (by rw [sp_bst]; first | (rw [if_pos (by rw [← hx5]; exact Int32.not_le.mp c_40)]) | (rw [if_neg (by rw [← hx5]; exact Int32.not_lt.mpr c_40)]; exact hx4)) (by rw [sp_bst]; first | (rw [if_pos (by rw [← hx5]; exact Int32.not_le.mp c_40)]; rfl) | (rw [if_neg (by rw [← hx5]; exact Int32.not_lt.mpr c_40)]; exact hx5)) (vk_tr f_31.1 hv1) H locs ls hP hD hS (lv_sub hl [2, 3, 4, 5, 6, 7, 0] rfl)
        · skip
          refine lv_iload hx hb dX5_bestOf_43 (lv_at hl 0 rfl) ?_
          refine lv_istore (lv' := [(5, .int (sp_cost (sp_any 2 (nI (f + 1)) d law wk pn pla att wal fin wn))), (7, .int (sp_cost (sp_any 2 (nI (f + 1)) d law wk pn pla att wal fin wn))), (0, .ref m0), (1, .int d), (2, .int wk), (3, .int law), (4, .int x4), (6, .int (nI (f + 1)))]) hx hb dX5_bestOf_45 hl (by decide) rfl (fun ls hl => ?_)
          refine lv_iload hx hb dX5_bestOf_47 (lv_at hl 7 rfl) ?_
          refine lv_istore (lv' := [(4, .int (nI (f + 1))), (5, .int (sp_cost (sp_any 2 (nI (f + 1)) d law wk pn pla att wal fin wn))), (7, .int (sp_cost (sp_any 2 (nI (f + 1)) d law wk pn pla att wal fin wn))), (0, .ref m0), (1, .int d), (2, .int wk), (3, .int law), (6, .int (nI (f + 1)))]) hx hb dX5_bestOf_49 hl (by decide) rfl (fun ls hl => ?_)
          refine lv_iinc (v := (nI ((f + 1) + 1))) (lv' := [(6, .int (nI ((f + 1) + 1))), (4, .int (nI (f + 1))), (5, .int (sp_cost (sp_any 2 (nI (f + 1)) d law wk pn pla att wal fin wn))), (7, .int (sp_cost (sp_any 2 (nI (f + 1)) d law wk pn pla att wal fin wn))), (0, .ref m0), (1, .int d), (2, .int wk), (3, .int law)]) hx hb dX5_bestOf_51 hl (k := 7) rfl (nI_1 (f + 1)) (by decide) rfl (fun ls hl => ?_)
          refine lv_goto (tgt := 17) hx hb dX5_bestOf_54 (by decide) ?_
          exact ih_17 (nI (f + 1)) (sp_cost (sp_any 2 (nI (f + 1)) d law wk pn pla att wal fin wn)) (f + 1) v2_31 lkd2_31 cam2_31 (by omega) (by omega) (by rw [sp_bst]; first | (rw [if_pos (by rw [← hx5]; exact Int32.not_le.mp c_40)]) | (rw [if_neg (by rw [← hx5]; exact Int32.not_lt.mpr c_40)]; exact hx4)) (by rw [sp_bst]; first | (rw [if_pos (by rw [← hx5]; exact Int32.not_le.mp c_40)]; rfl) | (rw [if_neg (by rw [← hx5]; exact Int32.not_lt.mpr c_40)]; exact hx5)) (vk_tr f_31.1 hv1) H locs ls hP hD hS (lv_sub hl [4, 5, 6, 7, 1, 2, 0] rfl)
  exact K_17 10 0 (sp_cost (sp_any 2 0 d law wk pn pla att wal fin wn)) 0 v2_9 lkd2_9 cam2_9 (by omega) (by omega) rfl rfl f_9.1 H locs ls hP hD hS (lv_sub hl [3, 4, 5, 6, 2, 1, 0] rfl)
theorem met_X5_dayOf_2f {l : Launch} {dC : Nat → ClassId} {dI : Nat → Nat → Nat} {dA : Nat → ClassId} (sz : Nat) (m0 : Nat) (a : Nat → Nat) (v : Nat → Int32) (wn : Nat) (kn : Nat) (pn : Nat) (lw : Int32) (att : Nat → Int32) (wal : Nat → Int32) (fin : Nat → Int32) (pla : Nat → Int32) (lkd : Nat → Int32) (cam : Nat → Int32) (kd : Int32) (f : Int32) (d : Int32) (wk : Int32) (law : Int32) (hw5 : wn ≤ 5) (hp8 : pn ≤ 8) (htn : ∀ w, w < wn → (0 ≤ att w ∧ att w ≤ 719) ∧ (0 ≤ wal w ∧ wal w ≤ 59)) (hwk : 0 ≤ wk ∧ wk ≤ 719) : Met l yX5_dayOf_2 (ws_ yX5_dayOf_2 cX5_dayOf_2 16 (some .int)) ({ frames := 8, cells := 0, slots := 0, locals := 600 } : Room) (RwP dC dI dA [.ref m0, .int kd, .int f, .int d, .int wk, .int law] [(m0, .inr (4, moF a v)), ((a 0), .inl (dA 0, 4, .inl (mn4 wn kn pn lw))), ((a 1), .inl (dA 0, 5, .inl att)), ((a 2), .inl (dA 0, 5, .inl wal)), ((a 3), .inl (dA 0, 5, .inl fin)), ((a 8), .inl (dA 0, 8, .inl pla)), ((a 21), .inl (dA 0, 16, .inl lkd)), ((a 25), .inl (dA 0, 5, .inl cam))] sz) (va_Qi (fun (r : Int32) (u : (Nat → Int32) × (Nat → Int32) × (Nat → Int32)) => r = sp_cost (sp_any kd f d law wk pn pla att wal fin wn) ∧ dyOK (sp_any kd f d law wk pn pla att wal fin wn) wn v u.1 u.2.1 u.2.2) (RwB dC dI (va_A [(m0, .inr (4, moF a v)), ((a 0), .inl (dA 0, 4, .inl (mn4 wn kn pn lw))), ((a 1), .inl (dA 0, 5, .inl att)), ((a 2), .inl (dA 0, 5, .inl wal)), ((a 3), .inl (dA 0, 5, .inl fin)), ((a 8), .inl (dA 0, 8, .inl pla)), ((a 21), .inl (dA 0, 16, .inl lkd)), ((a 25), .inl (dA 0, 5, .inl cam))] sz) (fun (u : (Nat → Int32) × (Nat → Int32) × (Nat → Int32)) => [(m0, .inr (4, moF a u.1)), ((a 0), .inl (dA 0, 4, .inl (mn4 wn kn pn lw))), ((a 1), .inl (dA 0, 5, .inl att)), ((a 2), .inl (dA 0, 5, .inl wal)), ((a 3), .inl (dA 0, 5, .inl fin)), ((a 8), .inl (dA 0, 8, .inl pla)), ((a 21), .inl (dA 0, 16, .inl u.2.1)), ((a 25), .inl (dA 0, 5, .inl u.2.2))])) (va_A [(m0, .inr (4, moF a v)), ((a 0), .inl (dA 0, 4, .inl (mn4 wn kn pn lw))), ((a 1), .inl (dA 0, 5, .inl att)), ((a 2), .inl (dA 0, 5, .inl wal)), ((a 3), .inl (dA 0, 5, .inl fin)), ((a 8), .inl (dA 0, 8, .inl pla)), ((a 21), .inl (dA 0, 16, .inl lkd)), ((a 25), .inl (dA 0, 5, .inl cam))] sz)) 0 0 (va_A [(m0, .inr (4, moF a v)), ((a 0), .inl (dA 0, 4, .inl (mn4 wn kn pn lw))), ((a 1), .inl (dA 0, 5, .inl att)), ((a 2), .inl (dA 0, 5, .inl wal)), ((a 3), .inl (dA 0, 5, .inl fin)), ((a 8), .inl (dA 0, 8, .inl pla)), ((a 21), .inl (dA 0, 16, .inl lkd)), ((a 25), .inl (dA 0, 5, .inl cam))] sz) :=
  met_X5_dayOf_2 sz m0 a v wn kn pn lw att wal fin pla lkd cam kd f d wk law hw5 hp8 htn hwk 8 600 (by decide) (by decide) (fun _ => ⟨⟨by decide, by decide⟩, fun sz v lkd cam => met_X5_bestOf sz m0 a v wn kn pn lw att wal fin pla lkd cam d wk law hw5 hp8 htn hwk⟩)
theorem hdS_X5_dayOf : yX5_dayOf.cls ≠ "java/lang/invoke/MethodHandle" ∧ yX5_dayOf.cls ≠ "java/lang/invoke/VarHandle" ∧ (parseMethodDescriptor yX5_dayOf.desc).map (fun d => d.parameters.length) = some 1 := by decide +kernel
theorem hdV_X5_dayOf : yX5_dayOf.cls = RX5 ∧ yX5_dayOf.cls ≠ "java/lang/invoke/MethodHandle" ∧ yX5_dayOf.cls ≠ "java/lang/invoke/VarHandle" ∧ (parseMethodDescriptor yX5_dayOf.desc).map (fun d => d.parameters.length) = some 1 := ⟨rfl, hdS_X5_dayOf⟩
set_option maxHeartbeats 4000000 in
set_option maxRecDepth 100000 in
theorem met_X5_dayOf {l : Launch} {dC : Nat → ClassId} {dI : Nat → Nat → Nat} {dA : Nat → ClassId} (sz : Nat) (m0 : Nat) (a : Nat → Nat) (v : Nat → Int32) (wn : Nat) (kn : Nat) (pn : Nat) (lw : Int32) (att : Nat → Int32) (wal : Nat → Int32) (fin : Nat → Int32) (knd : Nat → Int32) (fig : Nat → Int32) (dri : Nat → Int32) (wak : Nat → Int32) (pla : Nat → Int32) (lkd : Nat → Int32) (cam : Nat → Int32) (kk : Nat) (hw5 : wn ≤ 5) (hk6 : kn ≤ 6) (hp8 : pn ≤ 8) (htn : ∀ w, w < wn → (0 ≤ att w ∧ att w ≤ 719) ∧ (0 ≤ wal w ∧ wal w ≤ 59)) (hwa : ∀ k, k < kn → 0 ≤ wak k ∧ wak k ≤ 719) (hkk : kk < kn) : Met l yX5_dayOf (ws_ yX5_dayOf cX5_dayOf 2 (some .int)) ({ frames := 9, cells := 0, slots := 0, locals := 700 } : Room) (RwP dC dI dA [.ref m0, .int (nI kk)] [(m0, .inr (4, moF a v)), ((a 0), .inl (dA 0, 4, .inl (mn4 wn kn pn lw))), ((a 1), .inl (dA 0, 5, .inl att)), ((a 2), .inl (dA 0, 5, .inl wal)), ((a 3), .inl (dA 0, 5, .inl fin)), ((a 4), .inl (dA 0, 6, .inl knd)), ((a 5), .inl (dA 0, 6, .inl fig)), ((a 6), .inl (dA 0, 6, .inl dri)), ((a 7), .inl (dA 0, 6, .inl wak)), ((a 8), .inl (dA 0, 8, .inl pla)), ((a 21), .inl (dA 0, 16, .inl lkd)), ((a 25), .inl (dA 0, 5, .inl cam))] sz) (va_Qi (fun (r : Int32) (u : (Nat → Int32) × (Nat → Int32) × (Nat → Int32)) => r = sp_cost ((sp_lk knd fig dri wak lw pn pla att wal fin wn) kk) ∧ dyOK ((sp_lk knd fig dri wak lw pn pla att wal fin wn) kk) wn v u.1 u.2.1 u.2.2) (RwB dC dI (va_A [(m0, .inr (4, moF a v)), ((a 0), .inl (dA 0, 4, .inl (mn4 wn kn pn lw))), ((a 1), .inl (dA 0, 5, .inl att)), ((a 2), .inl (dA 0, 5, .inl wal)), ((a 3), .inl (dA 0, 5, .inl fin)), ((a 4), .inl (dA 0, 6, .inl knd)), ((a 5), .inl (dA 0, 6, .inl fig)), ((a 6), .inl (dA 0, 6, .inl dri)), ((a 7), .inl (dA 0, 6, .inl wak)), ((a 8), .inl (dA 0, 8, .inl pla)), ((a 21), .inl (dA 0, 16, .inl lkd)), ((a 25), .inl (dA 0, 5, .inl cam))] sz) (fun (u : (Nat → Int32) × (Nat → Int32) × (Nat → Int32)) => [(m0, .inr (4, moF a u.1)), ((a 0), .inl (dA 0, 4, .inl (mn4 wn kn pn lw))), ((a 1), .inl (dA 0, 5, .inl att)), ((a 2), .inl (dA 0, 5, .inl wal)), ((a 3), .inl (dA 0, 5, .inl fin)), ((a 4), .inl (dA 0, 6, .inl knd)), ((a 5), .inl (dA 0, 6, .inl fig)), ((a 6), .inl (dA 0, 6, .inl dri)), ((a 7), .inl (dA 0, 6, .inl wak)), ((a 8), .inl (dA 0, 8, .inl pla)), ((a 21), .inl (dA 0, 16, .inl u.2.1)), ((a 25), .inl (dA 0, 5, .inl u.2.2))])) (va_A [(m0, .inr (4, moF a v)), ((a 0), .inl (dA 0, 4, .inl (mn4 wn kn pn lw))), ((a 1), .inl (dA 0, 5, .inl att)), ((a 2), .inl (dA 0, 5, .inl wal)), ((a 3), .inl (dA 0, 5, .inl fin)), ((a 4), .inl (dA 0, 6, .inl knd)), ((a 5), .inl (dA 0, 6, .inl fig)), ((a 6), .inl (dA 0, 6, .inl dri)), ((a 7), .inl (dA 0, 6, .inl wak)), ((a 8), .inl (dA 0, 8, .inl pla)), ((a 21), .inl (dA 0, 16, .inl lkd)), ((a 25), .inl (dA 0, 5, .inl cam))] sz)) 0 0 (va_A [(m0, .inr (4, moF a v)), ((a 0), .inl (dA 0, 4, .inl (mn4 wn kn pn lw))), ((a 1), .inl (dA 0, 5, .inl att)), ((a 2), .inl (dA 0, 5, .inl wal)), ((a 3), .inl (dA 0, 5, .inl fin)), ((a 4), .inl (dA 0, 6, .inl knd)), ((a 5), .inl (dA 0, 6, .inl fig)), ((a 6), .inl (dA 0, 6, .inl dri)), ((a 7), .inl (dA 0, 6, .inl wak)), ((a 8), .inl (dA 0, 8, .inl pla)), ((a 21), .inl (dA 0, 16, .inl lkd)), ((a 25), .inl (dA 0, 5, .inl cam))] sz) := by
  refine ofRw (cc := cX5_dayOf) (maxL := 2) (ret := (some .int)) (Qf := fun A => va_Qi (fun (r : Int32) (u : (Nat → Int32) × (Nat → Int32) × (Nat → Int32)) => r = sp_cost ((sp_lk knd fig dri wak lw pn pla att wal fin wn) kk) ∧ dyOK ((sp_lk knd fig dri wak lw pn pla att wal fin wn) kk) wn v u.1 u.2.1 u.2.2) (RwB dC dI A (fun (u : (Nat → Int32) × (Nat → Int32) × (Nat → Int32)) => [(m0, .inr (4, moF a u.1)), ((a 0), .inl (dA 0, 4, .inl (mn4 wn kn pn lw))), ((a 1), .inl (dA 0, 5, .inl att)), ((a 2), .inl (dA 0, 5, .inl wal)), ((a 3), .inl (dA 0, 5, .inl fin)), ((a 4), .inl (dA 0, 6, .inl knd)), ((a 5), .inl (dA 0, 6, .inl fig)), ((a 6), .inl (dA 0, 6, .inl dri)), ((a 7), .inl (dA 0, 6, .inl wak)), ((a 8), .inl (dA 0, 8, .inl pla)), ((a 21), .inl (dA 0, 16, .inl u.2.1)), ((a 25), .inl (dA 0, 5, .inl u.2.2))])) A) (by decide) rfl (fun w h => List.mem_cons_of_mem _ h) (Nat.le_of_ble_eq_true rfl) ?_
  intro p e s m below meth c ls A hx hb hr hlocks hml hts hown hP hK hD hA hnm hsz hl
  have hS : va_S A s.heap s.heap [] := va_S.rf
  obtain ⟨H, hHe⟩ : ∃ H, H = s.heap := ⟨_, rfl⟩
  obtain ⟨locs, hlo⟩ : ∃ z : List Loc, z = [] := ⟨_, rfl⟩
  have hS : va_S A s.heap H locs := by rw [hHe, hlo]; exact hS
  suffices K0 : W p l e _ s m _ below meth c H locs 0 0 _ _ by rw [hHe, hlo] at K0; exact K0
  rw [← hHe] at hP
  have hown : s.vm.findClass RX5 = some m.cls := hown
  have hl : lv_has ls 2 [(0, .ref m0), (1, .int (nI kk))] := hl
  refine lv_aload_n hx hb dX5_dayOf_0 rfl (lv_at hl 0 rfl) ?_
  refine lv_aload_n hx hb dX5_dayOf_1 rfl (lv_at hl 0 rfl) ?_
  refine va_get (D := (dC, dI)) (ci := 4) (v := .ref (a 4)) (C := RX5) (T := TX5) (N := 41) hx hb hts in_X5 hown hK.1 hP 0 rfl rfl 4 (by decide) (hts _ q1096) (fun _ h9 => h9) rfl dX5_dayOf_2 ?_
  refine lv_iload_n hx hb dX5_dayOf_5 rfl (lv_at hl 1 rfl) ?_
  refine va_iald hx hb hK.1 hP 5 0 rfl rfl (vp_in_nI (by omega) (by omega)) dX5_dayOf_6 ?_
  refine lv_eqi (y := (knd kk)) (congrArg knd (nI_clamp (by omega))) ?_
  refine lv_aload_n hx hb dX5_dayOf_7 rfl (lv_at hl 0 rfl) ?_
  refine va_get (D := (dC, dI)) (ci := 4) (v := .ref (a 5)) (C := RX5) (T := TX5) (N := 41) hx hb hts in_X5 hown hK.1 hP 0 rfl rfl 5 (by decide) (hts _ q1097) (fun _ h9 => h9) rfl dX5_dayOf_8 ?_
  refine lv_iload_n hx hb dX5_dayOf_11 rfl (lv_at hl 1 rfl) ?_
  refine va_iald hx hb hK.1 hP 6 0 rfl rfl (vp_in_nI (by omega) (by omega)) dX5_dayOf_12 ?_
  refine lv_eqi (y := (fig kk)) (congrArg fig (nI_clamp (by omega))) ?_
  refine lv_aload_n hx hb dX5_dayOf_13 rfl (lv_at hl 0 rfl) ?_
  refine va_get (D := (dC, dI)) (ci := 4) (v := .ref (a 6)) (C := RX5) (T := TX5) (N := 41) hx hb hts in_X5 hown hK.1 hP 0 rfl rfl 6 (by decide) (hts _ q1098) (fun _ h9 => h9) rfl dX5_dayOf_14 ?_
  refine lv_iload_n hx hb dX5_dayOf_17 rfl (lv_at hl 1 rfl) ?_
  refine va_iald hx hb hK.1 hP 7 0 rfl rfl (vp_in_nI (by omega) (by omega)) dX5_dayOf_18 ?_
  refine lv_eqi (y := (dri kk)) (congrArg dri (nI_clamp (by omega))) ?_
  refine lv_aload_n hx hb dX5_dayOf_19 rfl (lv_at hl 0 rfl) ?_
  refine va_get (D := (dC, dI)) (ci := 4) (v := .ref (a 7)) (C := RX5) (T := TX5) (N := 41) hx hb hts in_X5 hown hK.1 hP 0 rfl rfl 7 (by decide) (hts _ q1099) (fun _ h9 => h9) rfl dX5_dayOf_20 ?_
  refine lv_iload_n hx hb dX5_dayOf_23 rfl (lv_at hl 1 rfl) ?_
  refine va_iald hx hb hK.1 hP 8 0 rfl rfl (vp_in_nI (by omega) (by omega)) dX5_dayOf_24 ?_
  refine lv_eqi (y := (wak kk)) (congrArg wak (nI_clamp (by omega))) ?_
  refine lv_aload_n hx hb dX5_dayOf_25 rfl (lv_at hl 0 rfl) ?_
  refine va_get (D := (dC, dI)) (ci := 4) (v := .ref (a 0)) (C := RX5) (T := TX5) (N := 41) hx hb hts in_X5 hown hK.1 hP 0 rfl rfl 0 (by decide) (hts _ q1092) (fun _ h9 => h9) rfl dX5_dayOf_26 ?_
  refine lv_iconst (v := 3) hx hb dX5_dayOf_29 (by decide) ?_
  refine va_iald hx hb hK.1 hP 1 0 rfl rfl (vin (by decide)) dX5_dayOf_30 ?_
  refine lv_eqi (y := lw) rfl ?_
  refine rw_i (wr := [((a 4), .inl (dA 0, 6, .inl knd)), ((a 5), .inl (dA 0, 6, .inl fig)), ((a 6), .inl (dA 0, 6, .inl dri)), ((a 7), .inl (dA 0, 6, .inl wak))]) (rw_V (rest := []) (As := [.int (knd kk), .int (fig kk), .int (dri kk), .int (wak kk), .int lw]) (wc := [(m0, .inr (4, moF a v)), ((a 0), .inl (dA 0, 4, .inl (mn4 wn kn pn lw))), ((a 1), .inl (dA 0, 5, .inl att)), ((a 2), .inl (dA 0, 5, .inl wal)), ((a 3), .inl (dA 0, 5, .inl fin)), ((a 8), .inl (dA 0, 8, .inl pla)), ((a 21), .inl (dA 0, 16, .inl lkd)), ((a 25), .inl (dA 0, 5, .inl cam))]) ⟨hx, hb, hml, hown, hts⟩ (met_X5_dayOf_2f _ m0 a v wn kn pn lw att wal fin pla lkd cam (knd kk) (fig kk) (dri kk) (wak kk) lw (by assumption) (by assumption) (by assumption) (hwa kk hkk)) (cwV 5 hts (lw_V q1283 q1285 qs27 q46 q1286) rfl rfl rfl hdV_X5_dayOf_2 ⟨Nat.le_of_ble_eq_true rfl, Nat.le_of_ble_eq_true rfl⟩) hK hP hD [0, 1, 2, 3, 4, 9, 10, 11] rfl (by decide) (va_recv hK.1 hP (ci := 4) (q0 := 0) rfl rfl) rfl hl.1 rfl (Nat.le_of_ble_eq_true rfl) dX5_dayOf_31 ⟨Nat.le_of_ble_eq_true rfl, Nat.le_of_ble_eq_true rfl⟩) hP hD hS hA [0, 1, 2, 3, 4, 9, 10, 11] [5, 6, 7, 8] rfl rfl (by decide) (by decide) (fun r_31 u_31 H locs h_31 hz_31 hP hD hS => ?_)
  obtain ⟨v2_31, lkd2_31, cam2_31⟩ := u_31
  have hP : va_P (dC, dI) vwCl [((a 4), .inl (dA 0, 6, .inl knd)), ((a 5), .inl (dA 0, 6, .inl fig)), ((a 6), .inl (dA 0, 6, .inl dri)), ((a 7), .inl (dA 0, 6, .inl wak)), (m0, .inr (4, moF a v2_31)), ((a 0), .inl (dA 0, 4, .inl (mn4 wn kn pn lw))), ((a 1), .inl (dA 0, 5, .inl att)), ((a 2), .inl (dA 0, 5, .inl wal)), ((a 3), .inl (dA 0, 5, .inl fin)), ((a 8), .inl (dA 0, 8, .inl pla)), ((a 21), .inl (dA 0, 16, .inl lkd2_31)), ((a 25), .inl (dA 0, 5, .inl cam2_31))] H := hP
  have hD : va_D A [((a 4), .inl (dA 0, 6, .inl knd)), ((a 5), .inl (dA 0, 6, .inl fig)), ((a 6), .inl (dA 0, 6, .inl dri)), ((a 7), .inl (dA 0, 6, .inl wak)), (m0, .inr (4, moF a v2_31)), ((a 0), .inl (dA 0, 4, .inl (mn4 wn kn pn lw))), ((a 1), .inl (dA 0, 5, .inl att)), ((a 2), .inl (dA 0, 5, .inl wal)), ((a 3), .inl (dA 0, 5, .inl fin)), ((a 8), .inl (dA 0, 8, .inl pla)), ((a 21), .inl (dA 0, 16, .inl lkd2_31)), ((a 25), .inl (dA 0, 5, .inl cam2_31))] := hD
  have f_31 : dyOK (sp_any (knd kk) (fig kk) (dri kk) lw (wak kk) pn pla att wal fin wn) wn v v2_31 lkd2_31 cam2_31 := h_31.2
  obtain rfl : r_31 = sp_cost (sp_any (knd kk) (fig kk) (dri kk) lw (wak kk) pn pla att wal fin wn) := h_31.1
  refine rt_i hx hb hr hlocks dX5_dayOf_34 hP hD hS (Nat.le_of_ble_eq_true rfl) (Nat.le_of_ble_eq_true rfl) (v2_31, lkd2_31, cam2_31) [4, 5, 6, 7, 8, 0, 1, 2, 3, 9, 10, 11] rfl (by decide) ?_
  exact ⟨rfl, f_31⟩
theorem hdS_X5_day : yX5_day.cls ≠ "java/lang/invoke/MethodHandle" ∧ yX5_day.cls ≠ "java/lang/invoke/VarHandle" ∧ (parseMethodDescriptor yX5_day.desc).map (fun d => d.parameters.length) = some 2 := by decide +kernel
theorem hdV_X5_day : yX5_day.cls = RX5 ∧ yX5_day.cls ≠ "java/lang/invoke/MethodHandle" ∧ yX5_day.cls ≠ "java/lang/invoke/VarHandle" ∧ (parseMethodDescriptor yX5_day.desc).map (fun d => d.parameters.length) = some 2 := ⟨rfl, hdS_X5_day⟩
set_option maxHeartbeats 4000000 in
set_option maxRecDepth 100000 in
theorem met_X5_day {l : Launch} {dC : Nat → ClassId} {dI : Nat → Nat → Nat} {dA : Nat → ClassId} (sz : Nat) (m0 : Nat) (a : Nat → Nat) (v : Nat → Int32) (wn : Nat) (kn : Nat) (pn : Nat) (lw : Int32) (att : Nat → Int32) (wal : Nat → Int32) (fin : Nat → Int32) (knd : Nat → Int32) (fig : Nat → Int32) (dri : Nat → Int32) (wak : Nat → Int32) (pla : Nat → Int32) (lkd : Nat → Int32) (cam : Nat → Int32) (k : Int32) (what : Int32) (hw5 : wn ≤ 5) (hk6 : kn ≤ 6) (hp8 : pn ≤ 8) (htn : ∀ w, w < wn → (0 ≤ att w ∧ att w ≤ 719) ∧ (0 ≤ wal w ∧ wal w ≤ 59)) (hwa : ∀ k, k < kn → 0 ≤ wak k ∧ wak k ≤ 719) : Met l yX5_day (ws_ yX5_day cX5_day 4 (some .int)) ({ frames := 11, cells := 0, slots := 0, locals := 900 } : Room) (RwP dC dI dA [.ref m0, .int k, .int what] [(m0, .inr (4, moF a v)), ((a 0), .inl (dA 0, 4, .inl (mn4 wn kn pn lw))), ((a 1), .inl (dA 0, 5, .inl att)), ((a 2), .inl (dA 0, 5, .inl wal)), ((a 3), .inl (dA 0, 5, .inl fin)), ((a 4), .inl (dA 0, 6, .inl knd)), ((a 5), .inl (dA 0, 6, .inl fig)), ((a 6), .inl (dA 0, 6, .inl dri)), ((a 7), .inl (dA 0, 6, .inl wak)), ((a 8), .inl (dA 0, 8, .inl pla)), ((a 21), .inl (dA 0, 16, .inl lkd)), ((a 25), .inl (dA 0, 5, .inl cam))] sz) (va_Qi (fun (r : Int32) (u : (Nat → Int32) × (Nat → Int32) × (Nat → Int32)) => r = sp_dayq kn (sp_lk knd fig dri wak lw pn pla att wal fin wn) k what ∧ sp_vk u.1 v) (RwB dC dI (va_A [(m0, .inr (4, moF a v)), ((a 0), .inl (dA 0, 4, .inl (mn4 wn kn pn lw))), ((a 1), .inl (dA 0, 5, .inl att)), ((a 2), .inl (dA 0, 5, .inl wal)), ((a 3), .inl (dA 0, 5, .inl fin)), ((a 4), .inl (dA 0, 6, .inl knd)), ((a 5), .inl (dA 0, 6, .inl fig)), ((a 6), .inl (dA 0, 6, .inl dri)), ((a 7), .inl (dA 0, 6, .inl wak)), ((a 8), .inl (dA 0, 8, .inl pla)), ((a 21), .inl (dA 0, 16, .inl lkd)), ((a 25), .inl (dA 0, 5, .inl cam))] sz) (fun (u : (Nat → Int32) × (Nat → Int32) × (Nat → Int32)) => [(m0, .inr (4, moF a u.1)), ((a 0), .inl (dA 0, 4, .inl (mn4 wn kn pn lw))), ((a 1), .inl (dA 0, 5, .inl att)), ((a 2), .inl (dA 0, 5, .inl wal)), ((a 3), .inl (dA 0, 5, .inl fin)), ((a 4), .inl (dA 0, 6, .inl knd)), ((a 5), .inl (dA 0, 6, .inl fig)), ((a 6), .inl (dA 0, 6, .inl dri)), ((a 7), .inl (dA 0, 6, .inl wak)), ((a 8), .inl (dA 0, 8, .inl pla)), ((a 21), .inl (dA 0, 16, .inl u.2.1)), ((a 25), .inl (dA 0, 5, .inl u.2.2))])) (va_A [(m0, .inr (4, moF a v)), ((a 0), .inl (dA 0, 4, .inl (mn4 wn kn pn lw))), ((a 1), .inl (dA 0, 5, .inl att)), ((a 2), .inl (dA 0, 5, .inl wal)), ((a 3), .inl (dA 0, 5, .inl fin)), ((a 4), .inl (dA 0, 6, .inl knd)), ((a 5), .inl (dA 0, 6, .inl fig)), ((a 6), .inl (dA 0, 6, .inl dri)), ((a 7), .inl (dA 0, 6, .inl wak)), ((a 8), .inl (dA 0, 8, .inl pla)), ((a 21), .inl (dA 0, 16, .inl lkd)), ((a 25), .inl (dA 0, 5, .inl cam))] sz)) 0 0 (va_A [(m0, .inr (4, moF a v)), ((a 0), .inl (dA 0, 4, .inl (mn4 wn kn pn lw))), ((a 1), .inl (dA 0, 5, .inl att)), ((a 2), .inl (dA 0, 5, .inl wal)), ((a 3), .inl (dA 0, 5, .inl fin)), ((a 4), .inl (dA 0, 6, .inl knd)), ((a 5), .inl (dA 0, 6, .inl fig)), ((a 6), .inl (dA 0, 6, .inl dri)), ((a 7), .inl (dA 0, 6, .inl wak)), ((a 8), .inl (dA 0, 8, .inl pla)), ((a 21), .inl (dA 0, 16, .inl lkd)), ((a 25), .inl (dA 0, 5, .inl cam))] sz) := by
  refine ofRw (cc := cX5_day) (maxL := 4) (ret := (some .int)) (Qf := fun A => va_Qi (fun (r : Int32) (u : (Nat → Int32) × (Nat → Int32) × (Nat → Int32)) => r = sp_dayq kn (sp_lk knd fig dri wak lw pn pla att wal fin wn) k what ∧ sp_vk u.1 v) (RwB dC dI A (fun (u : (Nat → Int32) × (Nat → Int32) × (Nat → Int32)) => [(m0, .inr (4, moF a u.1)), ((a 0), .inl (dA 0, 4, .inl (mn4 wn kn pn lw))), ((a 1), .inl (dA 0, 5, .inl att)), ((a 2), .inl (dA 0, 5, .inl wal)), ((a 3), .inl (dA 0, 5, .inl fin)), ((a 4), .inl (dA 0, 6, .inl knd)), ((a 5), .inl (dA 0, 6, .inl fig)), ((a 6), .inl (dA 0, 6, .inl dri)), ((a 7), .inl (dA 0, 6, .inl wak)), ((a 8), .inl (dA 0, 8, .inl pla)), ((a 21), .inl (dA 0, 16, .inl u.2.1)), ((a 25), .inl (dA 0, 5, .inl u.2.2))])) A) (by decide) rfl (fun w h => List.mem_cons_of_mem _ h) (Nat.le_of_ble_eq_true rfl) ?_
  intro p e s m below meth c ls A hx hb hr hlocks hml hts hown hP hK hD hA hnm hsz hl
  have hS : va_S A s.heap s.heap [] := va_S.rf
  obtain ⟨H, hHe⟩ : ∃ H, H = s.heap := ⟨_, rfl⟩
  obtain ⟨locs, hlo⟩ : ∃ z : List Loc, z = [] := ⟨_, rfl⟩
  have hS : va_S A s.heap H locs := by rw [hHe, hlo]; exact hS
  suffices K0 : W p l e _ s m _ below meth c H locs 0 0 _ _ by rw [hHe, hlo] at K0; exact K0
  rw [← hHe] at hP
  have hown : s.vm.findClass RX5 = some m.cls := hown
  have hl : lv_has ls 4 [(0, .ref m0), (1, .int k), (2, .int what)] := hl
  refine lv_aload_n hx hb dX5_day_0 rfl (lv_at hl 0 rfl) ?_
  refine lv_iload_n hx hb dX5_day_1 rfl (lv_at hl 1 rfl) ?_
  refine ro_V (rest := []) (As := [.int k]) (wc := [(m0, .inr (4, moF a v)), ((a 0), .inl (dA 0, 4, .inl (mn4 wn kn pn lw)))]) ⟨hx, hb, hml, hown, hts⟩ (met_X5_isLooker m0 a v wn kn pn lw k) (cwV 1 hts (lw_V q1256 q1258 qs25 q46 q1259) rfl rfl rfl hdV_X5_isLooker ⟨Nat.le_of_ble_eq_true rfl, Nat.le_of_ble_eq_true rfl⟩) hK hP [0, 1] rfl (va_recv hK.1 hP (ci := 4) (q0 := 0) rfl rfl) rfl hl.1 rfl (Nat.le_of_ble_eq_true rfl) dX5_day_2 ⟨Nat.le_of_ble_eq_true rfl, Nat.le_of_ble_eq_true rfl⟩ (fun r_2 h_2 => ?_)
  obtain rfl : r_2 = bI (0 ≤ k ∧ k ≤ nI kn - 1) := h_2
  refine lv_if_eq (tgt := 17) hx hb dX5_day_5 (by decide) (fun c_5 => ?_) (fun c_5 => ?_)
  · skip
    have c_5 := bI_eq0 (P := 0 ≤ k ∧ k ≤ nI kn - 1) rfl c_5
    refine lv_iconst (v := (-1)) hx hb dX5_day_17 (by decide) ?_
    refine rt_i hx hb hr hlocks dX5_day_18 hP hD hS (Nat.le_of_ble_eq_true rfl) (Nat.le_of_ble_eq_true rfl) (v, lkd, cam) [0, 1, 2, 3, 4, 5, 6, 7, 8, 9, 10, 11] rfl (by decide) ?_
    exact ⟨by rw [sp_dayq]; first | rw [if_neg c_5] | rw [if_pos c_5, if_neg c_14], vk_rf v⟩
  · skip
    have c_5 := bI_ne0 (P := 0 ≤ k ∧ k ≤ nI kn - 1) rfl c_5
    refine lv_iload_n hx hb dX5_day_8 rfl (lv_at hl 2 rfl) ?_
    refine lv_iconst (v := 0) hx hb dX5_day_9 (by decide) ?_
    refine lv_iconst (v := 4) hx hb dX5_day_10 (by decide) ?_
    refine ro_S (rest := []) (As := [.int what, .int 0, .int 4]) (wc := []) ⟨hx, hb, hml, hown, hts⟩ (met_X5_isIn what 0 4) (va_cwS 3 hts (lw_S q1234 q1235 q46 q1236) rfl rfl rfl hdS_X5_isIn ⟨Nat.le_of_ble_eq_true rfl, Nat.le_of_ble_eq_true rfl⟩) hK hP [] rfl rfl hl.1 rfl (Nat.le_of_ble_eq_true rfl) dX5_day_11 ⟨Nat.le_of_ble_eq_true rfl, Nat.le_of_ble_eq_true rfl⟩ (fun r_11 h_11 => ?_)
    obtain rfl : r_11 = bI (0 ≤ what ∧ what ≤ 4) := h_11
    refine lv_if_ne (tgt := 19) hx hb dX5_day_14 (by decide) (fun c_14 => ?_) (fun c_14 => ?_)
    · skip
      have c_14 := bI_ne0 (P := 0 ≤ what ∧ what ≤ 4) rfl c_14
      obtain ⟨kk, hkk, rfl⟩ := ix_nI (by omega) c_5
      have e_kk : (nI kk).toNatClampNeg = kk := nI_clamp (by omega)
      refine lv_aload_n hx hb dX5_day_19 rfl (lv_at hl 0 rfl) ?_
      refine lv_iload_n hx hb dX5_day_20 rfl (lv_at hl 1 rfl) ?_
      refine rw_i (wr := []) (rw_V (rest := []) (As := [.int (nI kk)]) (wc := [(m0, .inr (4, moF a v)), ((a 0), .inl (dA 0, 4, .inl (mn4 wn kn pn lw))), ((a 1), .inl (dA 0, 5, .inl att)), ((a 2), .inl (dA 0, 5, .inl wal)), ((a 3), .inl (dA 0, 5, .inl fin)), ((a 4), .inl (dA 0, 6, .inl knd)), ((a 5), .inl (dA 0, 6, .inl fig)), ((a 6), .inl (dA 0, 6, .inl dri)), ((a 7), .inl (dA 0, 6, .inl wak)), ((a 8), .inl (dA 0, 8, .inl pla)), ((a 21), .inl (dA 0, 16, .inl lkd)), ((a 25), .inl (dA 0, 5, .inl cam))]) ⟨hx, hb, hml, hown, hts⟩ (met_X5_dayOf _ m0 a v wn kn pn lw att wal fin knd fig dri wak pla lkd cam kk (by assumption) (by assumption) (by assumption) (by assumption) (by assumption) (by assumption)) (cwV 1 hts (lw_V q1279 q1281 qs26 q46 q1282) rfl rfl rfl hdV_X5_dayOf ⟨Nat.le_of_ble_eq_true rfl, Nat.le_of_ble_eq_true rfl⟩) hK hP hD [0, 1, 2, 3, 4, 5, 6, 7, 8, 9, 10, 11] rfl (by decide) (va_recv hK.1 hP (ci := 4) (q0 := 0) rfl rfl) rfl hl.1 rfl (Nat.le_of_ble_eq_true rfl) dX5_day_21 ⟨Nat.le_of_ble_eq_true rfl, Nat.le_of_ble_eq_true rfl⟩) hP hD hS hA [0, 1, 2, 3, 4, 5, 6, 7, 8, 9, 10, 11] [] rfl rfl (by decide) (by decide) (fun r_21 u_21 H locs h_21 hz_21 hP hD hS => ?_)
      obtain ⟨v2_21, lkd2_21, cam2_21⟩ := u_21
      have hP : va_P (dC, dI) vwCl [(m0, .inr (4, moF a v2_21)), ((a 0), .inl (dA 0, 4, .inl (mn4 wn kn pn lw))), ((a 1), .inl (dA 0, 5, .inl att)), ((a 2), .inl (dA 0, 5, .inl wal)), ((a 3), .inl (dA 0, 5, .inl fin)), ((a 4), .inl (dA 0, 6, .inl knd)), ((a 5), .inl (dA 0, 6, .inl fig)), ((a 6), .inl (dA 0, 6, .inl dri)), ((a 7), .inl (dA 0, 6, .inl wak)), ((a 8), .inl (dA 0, 8, .inl pla)), ((a 21), .inl (dA 0, 16, .inl lkd2_21)), ((a 25), .inl (dA 0, 5, .inl cam2_21))] H := hP
      have hD : va_D A [(m0, .inr (4, moF a v2_21)), ((a 0), .inl (dA 0, 4, .inl (mn4 wn kn pn lw))), ((a 1), .inl (dA 0, 5, .inl att)), ((a 2), .inl (dA 0, 5, .inl wal)), ((a 3), .inl (dA 0, 5, .inl fin)), ((a 4), .inl (dA 0, 6, .inl knd)), ((a 5), .inl (dA 0, 6, .inl fig)), ((a 6), .inl (dA 0, 6, .inl dri)), ((a 7), .inl (dA 0, 6, .inl wak)), ((a 8), .inl (dA 0, 8, .inl pla)), ((a 21), .inl (dA 0, 16, .inl lkd2_21)), ((a 25), .inl (dA 0, 5, .inl cam2_21))] := hD
      have f_21 : dyOK ((sp_lk knd fig dri wak lw pn pla att wal fin wn) kk) wn v v2_21 lkd2_21 cam2_21 := h_21.2
      obtain rfl : r_21 = sp_cost ((sp_lk knd fig dri wak lw pn pla att wal fin wn) kk) := h_21.1
      refine lv_istore_n (lv' := [(3, .int (sp_cost ((sp_lk knd fig dri wak lw pn pla att wal fin wn) kk))), (0, .ref m0), (1, .int (nI kk)), (2, .int what)]) hx hb dX5_day_24 rfl hl (by decide) rfl (fun ls hl => ?_)
      refine lv_iload_n hx hb dX5_day_25 rfl (lv_at hl 3 rfl) ?_
      refine lv_if_ne (tgt := 33) hx hb dX5_day_26 (by decide) (fun c_26 => ?_) (fun c_26 => ?_)
      · skip
        refine lv_iload_n hx hb dX5_day_33 rfl (lv_at hl 3 rfl) ?_
        refine lv_iconst (v := 1) hx hb dX5_day_34 (by decide) ?_
        refine lv_icmp_ne (tgt := 45) hx hb dX5_day_35 (by decide) (fun c_35 => ?_) (fun c_35 => ?_)
        · skip
          refine lv_iload_n hx hb dX5_day_45 rfl (lv_at hl 3 rfl) ?_
          refine lv_iconst (v := 2) hx hb dX5_day_46 (by decide) ?_
          refine lv_icmp_ne (tgt := 57) hx hb dX5_day_47 (by decide) (fun c_47 => ?_) (fun c_47 => ?_)
          · skip
            refine lv_iload_n hx hb dX5_day_57 rfl (lv_at hl 3 rfl) ?_
            refine lv_iconst (v := 3) hx hb dX5_day_58 (by decide) ?_
            refine lv_icmp_ne (tgt := 69) hx hb dX5_day_59 (by decide) (fun c_59 => ?_) (fun c_59 => ?_)
            · skip
              refine lv_aload_n hx hb dX5_day_69 rfl (lv_at hl 1 rfl) ?_
              refine va_get (D := (dC, dI)) (ci := 4) (v := .int (v2_21 19)) (C := RX5) (T := TX5) (N := 41) hx hb hts in_X5 hown hK.1 hP 0 rfl rfl 19 (by decide) (hts _ q1111) (fun _ h9 => h9) rfl dX5_day_70 ?_
              refine rt_i hx hb hr hlocks dX5_day_73 hP hD hS (Nat.le_of_ble_eq_true rfl) (Nat.le_of_ble_eq_true rfl) (v2_21, lkd2_21, cam2_21) [0, 1, 2, 3, 4, 5, 6, 7, 8, 9, 10, 11] rfl (by decide) ?_
              rw [sp_dayq, if_pos c_5, if_pos c_14, e_kk, sp_dayr]
              obtain ⟨d1, d2, d3, d4, d5, d6, d7⟩ := f_21
              exact ⟨by rw [if_neg c_26, if_neg c_35, if_neg c_47, if_neg c_59]; exact d2, d1⟩
            · skip
              refine lv_aload_n hx hb dX5_day_62 rfl (lv_at hl 1 rfl) ?_
              refine va_get (D := (dC, dI)) (ci := 4) (v := .int (v2_21 24)) (C := RX5) (T := TX5) (N := 41) hx hb hts in_X5 hown hK.1 hP 0 rfl rfl 24 (by decide) (hts _ q1116) (fun _ h9 => h9) rfl dX5_day_63 ?_
              refine lv_goto (tgt := 73) hx hb dX5_day_66 (by decide) ?_
              refine rt_i hx hb hr hlocks dX5_day_73 hP hD hS (Nat.le_of_ble_eq_true rfl) (Nat.le_of_ble_eq_true rfl) (v2_21, lkd2_21, cam2_21) [0, 1, 2, 3, 4, 5, 6, 7, 8, 9, 10, 11] rfl (by decide) ?_
              rw [sp_dayq, if_pos c_5, if_pos c_14, e_kk, sp_dayr]
              obtain ⟨d1, d2, d3, d4, d5, d6, d7⟩ := f_21
              exact ⟨by rw [if_neg c_26, if_neg c_35, if_neg c_47, if_pos c_59]; exact d6, d1⟩
          · skip
            refine lv_aload_n hx hb dX5_day_50 rfl (lv_at hl 1 rfl) ?_
            refine va_get (D := (dC, dI)) (ci := 4) (v := .int (v2_21 22)) (C := RX5) (T := TX5) (N := 41) hx hb hts in_X5 hown hK.1 hP 0 rfl rfl 22 (by decide) (hts _ q1114) (fun _ h9 => h9) rfl dX5_day_51 ?_
            refine lv_goto (tgt := 73) hx hb dX5_day_54 (by decide) ?_
            refine rt_i hx hb hr hlocks dX5_day_73 hP hD hS (Nat.le_of_ble_eq_true rfl) (Nat.le_of_ble_eq_true rfl) (v2_21, lkd2_21, cam2_21) [0, 1, 2, 3, 4, 5, 6, 7, 8, 9, 10, 11] rfl (by decide) ?_
            rw [sp_dayq, if_pos c_5, if_pos c_14, e_kk, sp_dayr]
            obtain ⟨d1, d2, d3, d4, d5, d6, d7⟩ := f_21
            exact ⟨by rw [if_neg c_26, if_neg c_35, if_pos c_47]; exact d4, d1⟩
        · skip
          refine lv_aload_n hx hb dX5_day_38 rfl (lv_at hl 1 rfl) ?_
          refine va_get (D := (dC, dI)) (ci := 4) (v := .int (v2_21 20)) (C := RX5) (T := TX5) (N := 41) hx hb hts in_X5 hown hK.1 hP 0 rfl rfl 20 (by decide) (hts _ q1112) (fun _ h9 => h9) rfl dX5_day_39 ?_
          refine lv_goto (tgt := 73) hx hb dX5_day_42 (by decide) ?_
          refine rt_i hx hb hr hlocks dX5_day_73 hP hD hS (Nat.le_of_ble_eq_true rfl) (Nat.le_of_ble_eq_true rfl) (v2_21, lkd2_21, cam2_21) [0, 1, 2, 3, 4, 5, 6, 7, 8, 9, 10, 11] rfl (by decide) ?_
          rw [sp_dayq, if_pos c_5, if_pos c_14, e_kk, sp_dayr]
          obtain ⟨d1, d2, d3, d4, d5, d6, d7⟩ := f_21
          exact ⟨by rw [if_neg c_26, if_pos c_35]; exact d3, d1⟩
      · skip
        refine lv_iload_n hx hb dX5_day_29 rfl (lv_at hl 0 rfl) ?_
        refine lv_goto (tgt := 73) hx hb dX5_day_30 (by decide) ?_
        refine rt_i hx hb hr hlocks dX5_day_73 hP hD hS (Nat.le_of_ble_eq_true rfl) (Nat.le_of_ble_eq_true rfl) (v2_21, lkd2_21, cam2_21) [0, 1, 2, 3, 4, 5, 6, 7, 8, 9, 10, 11] rfl (by decide) ?_
        rw [sp_dayq, if_pos c_5, if_pos c_14, e_kk, sp_dayr]
        obtain ⟨d1, d2, d3, d4, d5, d6, d7⟩ := f_21
        exact ⟨by rw [if_pos c_26], d1⟩
    · skip
      have c_14 := bI_eq0 (P := 0 ≤ what ∧ what ≤ 4) rfl c_14
      refine lv_iconst (v := (-1)) hx hb dX5_day_17 (by decide) ?_
      refine rt_i hx hb hr hlocks dX5_day_18 hP hD hS (Nat.le_of_ble_eq_true rfl) (Nat.le_of_ble_eq_true rfl) (v, lkd, cam) [0, 1, 2, 3, 4, 5, 6, 7, 8, 9, 10, 11] rfl (by decide) ?_
      exact ⟨by rw [sp_dayq]; first | rw [if_neg c_5] | rw [if_pos c_5, if_neg c_14], vk_rf v⟩
