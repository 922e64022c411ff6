/-! learning: which drifts fit a row of threes -/
abbrev sp_wk (f : Nat → Int32) (b k : Nat) : Prop := (0 ≤ f (b + 3 * k) ∧ f (b + 3 * k) ≤ 719) ∧ (0 ≤ f (b + 3 * k + 1) ∧ f (b + 3 * k + 1) ≤ 719) ∧ f (b + 3 * k) < f (b + 3 * k + 1)
def sp_wells (f : Nat → Int32) (b : Nat) : Nat → Bool
  | 0 => true
  | k + 1 => sp_wells f b k && decide (sp_wk f b k)
def sp_fits (f : Nat → Int32) (b : Nat) (d : Int32) : Nat → Bool
  | 0 => true
  | k + 1 => sp_fits f b d k && decide (sp_th d (f (b + 3 * k)) (f (b + 3 * k + 1)) = f (b + 3 * k + 2))
/-- how many fit, the least, the greatest (from 0 on), of the first j drifts -/
def sp_l3 (f : Nat → Int32) (b mm : Nat) : Nat → Nat × Nat × Nat
  | 0 => (0, 0, 0)
  | j + 1 => if sp_fits f b (nI j - 20) mm = true then ((sp_l3 f b mm j).1 + 1, if (sp_l3 f b mm j).1 = 0 then j else (sp_l3 f b mm j).2.1, j) else sp_l3 f b mm j
def sp_lrn (f : Nat → Int32) (b z : Nat) (what : Int32) : Int32 := if z % 3 = 0 ∧ sp_wells f b (z / 3) = true then if what = 0 then nI (sp_l3 f b (z / 3) 41).1 else if (sp_l3 f b (z / 3) 41).1 = 0 then -4 else if what = 1 then nI (sp_l3 f b (z / 3) 41).2.1 else nI (sp_l3 f b (z / 3) 41).2.2 else -13
def sp_learn (hol sor : Nat → Int32) (zn : Nat → Nat) (itm : Nat → Int32) (d what : Int32) : Int32 := if (0 ≤ d ∧ d ≤ 7) ∧ (0 ≤ what ∧ what ≤ 2) then if hol d.toNatClampNeg = 0 then -11 else if hol d.toNatClampNeg = 1 ∨ ¬ sor d.toNatClampNeg = 2 then -12 else sp_lrn itm (100 * d.toNatClampNeg) (zn d.toNatClampNeg) what else -1
theorem wells_mono {f : Nat → Int32} {b k : Nat} (h : sp_wells f b k = false) : ∀ n, k ≤ n → sp_wells f b n = false := by
  intro n hn
  induction n with
  | zero => obtain rfl : k = 0 := by omega
            exact h
  | succ n ih =>
    rcases Nat.lt_or_ge n k with q | q
    · obtain rfl : k = n + 1 := by omega
      exact h
    · rw [sp_wells, ih q, Bool.false_and]
theorem wells_off {f : Nat → Int32} {b z k : Nat} {x : Int32} (hk : k ≤ z / 3) (h : x = bI (z % 3 = 0 ∧ sp_wells f b k = true)) (h0 : x = 0) : x = bI (z % 3 = 0 ∧ sp_wells f b (z / 3) = true) := by
  have hw := bI_eq0 h h0
  rw [h0]
  refine (bI_f ?_).symm
  intro h9
  apply hw
  refine ⟨h9.1, ?_⟩
  cases hq : sp_wells f b k with
  | true => rfl
  | false =>
    have h2 := wells_mono hq _ hk
    rw [h9.2] at h2
    cases h2
theorem l3_yes {f : Nat → Int32} {b mm j : Nat} (h : sp_fits f b (nI j - 20) mm = true) : sp_l3 f b mm (j + 1) = ((sp_l3 f b mm j).1 + 1, if (sp_l3 f b mm j).1 = 0 then j else (sp_l3 f b mm j).2.1, j) := if_pos h
theorem l3_no {f : Nat → Int32} {b mm j : Nat} (h : ¬ sp_fits f b (nI j - 20) mm = true) : sp_l3 f b mm (j + 1) = sp_l3 f b mm j := if_neg h
theorem gt20 {j : Nat} (h : j ≤ 41) : (20 : Int32) < nI j - 20 ↔ 40 < j := by
  rw [Int32.lt_iff_toInt_lt, Int32.toInt_sub, nI_toInt (by omega), show (20 : Int32).toInt = 20 from by decide, Int.bmod_eq_of_le (by omega) (by omega)]
  omega
theorem m20 (j : Nat) : nI j - 20 + 1 = nI (j + 1) - 20 := by rw [nI_succ]; grind
theorem p20 (j : Nat) : (20 : Int32) + (nI j - 20) = nI j := by grind
theorem c103 (d k : Nat) : (100 : Int32) * nI d + 3 * nI k = nI (100 * d + 3 * k) := by rw [show (100 : Int32) = nI 100 from rfl, show (3 : Int32) = nI 3 from rfl, pk_mul, pk_mul, nI_add]
theorem rem3 {z : Nat} (h : z ≤ 100) : nI z - nI z / 3 * 3 = nI (z % 3) := pk_rem (a := z) (d := 3) (by omega) (by decide) (by decide)
theorem div3 {z : Nat} (h : z ≤ 100) : nI z / 3 = nI (z / 3) := pk_div (a := z) (d := 3) (by omega) (by decide) (by decide)
theorem hdS_X5_learn : yX5_learn.cls ≠ "java/lang/invoke/MethodHandle" ∧ yX5_learn.cls ≠ "java/lang/invoke/VarHandle" ∧ (parseMethodDescriptor yX5_learn.desc).map (fun d => d.parameters.length) = some 2 := by decide +kernel
theorem hdV_X5_learn : yX5_learn.cls = RX5 ∧ yX5_learn.cls ≠ "java/lang/invoke/MethodHandle" ∧ yX5_learn.cls ≠ "java/lang/invoke/VarHandle" ∧ (parseMethodDescriptor yX5_learn.desc).map (fun d => d.parameters.length) = some 2 := ⟨rfl, hdS_X5_learn⟩
set_option maxHeartbeats 4000000 in
set_option maxRecDepth 100000 in
theorem met_X5_learn {l : Launch} {dC : Nat → ClassId} {dI : Nat → Nat → Nat} {dA : Nat → ClassId} (m0 : Nat) (a : Nat → Nat) (v : Nat → Int32) (zn : Nat → Nat) (hol : Nat → Int32) (sor : Nat → Int32) (itm : Nat → Int32) (d : Int32) (what : Int32) (hz : ∀ d, d < 8 → zn d ≤ 100) : Met l yX5_learn (ws_ yX5_learn cX5_learn 11 (some .int)) ({ frames := 4, cells := 0, slots := 0, locals := 192 } : Room) (RoP dC dI dA [.ref m0, .int d, .int what] [(m0, .inr (4, moF a v)), ((a 32), .inl (dA 0, 8, .inl hol)), ((a 33), .inl (dA 0, 8, .inl sor)), ((a 34), .inl (dA 0, 8, .inl (nF zn))), ((a 35), .inl (dA 0, 800, .inl itm))]) (vp_Si (fun r => r = sp_learn hol sor zn itm d what)) 0 0 (fun _ => False) := by
  refine ofRo (cc := cX5_learn) (maxL := 11) (ret := (some .int)) (by decide) rfl (fun w h => List.mem_cons_of_mem _ h) (Nat.le_of_ble_eq_true rfl) ?_
  intro p e s m below meth c ls hx hb hr hlocks hml hts hown hP hK hl
  have hown : s.vm.findClass RX5 = some m.cls := hown
  have hl : lv_has ls 11 [(0, .ref m0), (1, .int d), (2, .int what)] := hl
  refine lv_iload_n hx hb dX5_learn_0 rfl (lv_at hl 1 rfl) ?_
  refine lv_iconst (v := 0) hx hb dX5_learn_1 (by decide) ?_
  refine lv_bipush (v := 7) hx hb dX5_learn_2 (by decide) ?_
  refine ro_S (rest := []) (As := [.int d, .int 0, .int 7]) (wc := []) ⟨hx, hb, hml, hown, hts⟩ (met_X5_isIn d 0 7) (va_cwS 3 hts (lw_S q1234 q1235 q46 q1236) rfl rfl rfl hdS_X5_isIn ⟨Nat.le_of_ble_eq_true rfl, Nat.le_of_ble_eq_true rfl⟩) hK hP [] rfl rfl hl.1 rfl (Nat.le_of_ble_eq_true rfl) dX5_learn_4 ⟨Nat.zero_le _, Nat.zero_le _⟩ (fun r_4 h_4 => ?_)
  obtain rfl : r_4 = bI (0 ≤ d ∧ d ≤ 7) := h_4
  refine lv_if_eq (tgt := 19) hx hb dX5_learn_7 (by decide) (fun c_7 => ?_) (fun c_7 => ?_)
  · skip
    have c_7 := bI_eq0 (P := 0 ≤ d ∧ d ≤ 7) rfl c_7
    refine lv_iconst (v := (-1)) hx hb dX5_learn_19 (by decide) ?_
    refine rt_si hx hb hr hlocks dX5_learn_20 ?_
    clear hl hP hK hts
    grind [sp_learn]
  · skip
    have c_7 := bI_ne0 (P := 0 ≤ d ∧ d ≤ 7) rfl c_7
    refine lv_iload_n hx hb dX5_learn_10 rfl (lv_at hl 2 rfl) ?_
    refine lv_iconst (v := 0) hx hb dX5_learn_11 (by decide) ?_
    refine lv_iconst (v := 2) hx hb dX5_learn_12 (by decide) ?_
    refine ro_S (rest := []) (As := [.int what, .int 0, .int 2]) (wc := []) ⟨hx, hb, hml, hown, hts⟩ (met_X5_isIn what 0 2) (va_cwS 3 hts (lw_S q1234 q1235 q46 q1236) rfl rfl rfl hdS_X5_isIn ⟨Nat.le_of_ble_eq_true rfl, Nat.le_of_ble_eq_true rfl⟩) hK hP [] rfl rfl hl.1 rfl (Nat.le_of_ble_eq_true rfl) dX5_learn_13 ⟨Nat.zero_le _, Nat.zero_le _⟩ (fun r_13 h_13 => ?_)
    obtain rfl : r_13 = bI (0 ≤ what ∧ what ≤ 2) := h_13
    refine lv_if_ne (tgt := 21) hx hb dX5_learn_16 (by decide) (fun c_16 => ?_) (fun c_16 => ?_)
    · skip
      have c_16 := bI_ne0 (P := 0 ≤ what ∧ what ≤ 2) rfl c_16
      obtain ⟨dd, hdd, rfl⟩ := ix_lit 8 (by decide) (by decide) c_7
      have e_dd : (nI dd).toNatClampNeg = dd := nI_clamp (by omega)
      have hzd := hz dd hdd
      refine lv_aload_n hx hb dX5_learn_21 rfl (lv_at hl 0 rfl) ?_
      refine va_get (D := (dC, dI)) (ci := 4) (v := .ref (a 32)) (C := RX5) (T := TX5) (N := 41) hx hb hts in_X5 hown hK.1 hP 0 rfl rfl 32 (by decide) (hts _ q1124) (fun _ h9 => h9) rfl dX5_learn_22 ?_
      refine lv_iload_n hx hb dX5_learn_25 rfl (lv_at hl 1 rfl) ?_
      refine va_iald hx hb hK.1 hP 1 0 rfl rfl (vp_in_nI (by omega) (by omega)) dX5_learn_26 ?_
      refine lv_eqi (y := (hol dd)) (congrArg hol (nI_clamp (by omega))) ?_
      refine lv_if_ne (tgt := 33) hx hb dX5_learn_27 (by decide) (fun c_27 => ?_) (fun c_27 => ?_)
      · skip
        refine lv_aload_n hx hb dX5_learn_33 rfl (lv_at hl 0 rfl) ?_
        refine va_get (D := (dC, dI)) (ci := 4) (v := .ref (a 32)) (C := RX5) (T := TX5) (N := 41) hx hb hts in_X5 hown hK.1 hP 0 rfl rfl 32 (by decide) (hts _ q1124) (fun _ h9 => h9) rfl dX5_learn_34 ?_
        refine lv_iload_n hx hb dX5_learn_37 rfl (lv_at hl 1 rfl) ?_
        refine va_iald hx hb hK.1 hP 1 0 rfl rfl (vp_in_nI (by omega) (by omega)) dX5_learn_38 ?_
        refine lv_eqi (y := (hol dd)) (congrArg hol (nI_clamp (by omega))) ?_
        refine lv_iconst (v := 1) hx hb dX5_learn_39 (by decide) ?_
        refine lv_icmp_eq (tgt := 53) hx hb dX5_learn_40 (by decide) (fun c_40 => ?_) (fun c_40 => ?_)
        · skip
          refine lv_bipush (v := (-12)) hx hb dX5_learn_53 (by decide) ?_
          refine rt_si hx hb hr hlocks dX5_learn_55 ?_
          clear hl hP hK hts
          grind [sp_learn]
        · skip
          refine lv_aload_n hx hb dX5_learn_43 rfl (lv_at hl 0 rfl) ?_
          refine va_get (D := (dC, dI)) (ci := 4) (v := .ref (a 33)) (C := RX5) (T := TX5) (N := 41) hx hb hts in_X5 hown hK.1 hP 0 rfl rfl 33 (by decide) (hts _ q1125) (fun _ h9 => h9) rfl dX5_learn_44 ?_
          refine lv_iload_n hx hb dX5_learn_47 rfl (lv_at hl 1 rfl) ?_
          refine va_iald hx hb hK.1 hP 2 0 rfl rfl (vp_in_nI (by omega) (by omega)) dX5_learn_48 ?_
          refine lv_eqi (y := (sor dd)) (congrArg sor (nI_clamp (by omega))) ?_
          refine lv_iconst (v := 2) hx hb dX5_learn_49 (by decide) ?_
          refine lv_icmp_eq (tgt := 56) hx hb dX5_learn_50 (by decide) (fun c_50 => ?_) (fun c_50 => ?_)
          · skip
            have K_163 : ∀ (x3 : Int32), (x3 = bI (zn dd % 3 = 0 ∧ sp_wells itm (100 * dd) (zn dd / 3) = true)) → ∀ (ls : Array Slot), lv_has ls 11 [(0, .ref m0), (1, .int (nI dd)), (2, .int what), (3, .int x3)] → W p l e ({ frames := 4, cells := 0, slots := 0, locals := 192 } : Room) s m ([.ref m0, .int (nI dd), .int what] : List Value).toArray below meth c s.heap [] 0 0 (MQ below (vp_Si (fun r => r = sp_learn hol sor zn itm (nI dd) what)) ([.ref m0, .int (nI dd), .int what] : List Value).toArray s 0 0 (fun _ => False)) (F0 m 163 ls []) := by
              intro x3 hx3 ls hl
              refine lv_iload_n hx hb dX5_learn_163 rfl (lv_at hl 3 rfl) ?_
              refine lv_if_ne (tgt := 170) hx hb dX5_learn_164 (by decide) (fun c_164 => ?_) (fun c_164 => ?_)
              · skip
                refine lv_iconst (v := 0) hx hb dX5_learn_170 (by decide) ?_
                refine lv_istore (lv' := [(4, .int 0), (0, .ref m0), (1, .int (nI dd)), (2, .int what), (3, .int x3)]) hx hb dX5_learn_171 hl (by decide) rfl (fun ls hl => ?_)
                refine lv_iconst (v := 0) hx hb dX5_learn_173 (by decide) ?_
                refine lv_istore (lv' := [(5, .int 0), (4, .int 0), (0, .ref m0), (1, .int (nI dd)), (2, .int what), (3, .int x3)]) hx hb dX5_learn_174 hl (by decide) rfl (fun ls hl => ?_)
                refine lv_iconst (v := 0) hx hb dX5_learn_176 (by decide) ?_
                refine lv_istore (lv' := [(6, .int 0), (5, .int 0), (4, .int 0), (0, .ref m0), (1, .int (nI dd)), (2, .int what), (3, .int x3)]) hx hb dX5_learn_177 hl (by decide) rfl (fun ls hl => ?_)
                refine lv_bipush (v := (-20)) hx hb dX5_learn_179 (by decide) ?_
                refine lv_istore (lv' := [(7, .int (-20)), (6, .int 0), (5, .int 0), (4, .int 0), (0, .ref m0), (1, .int (nI dd)), (2, .int what), (3, .int x3)]) hx hb dX5_learn_181 hl (by decide) rfl (fun ls hl => ?_)
                have K_183 : ∀ (fuel : Nat), ∀ (x5 : Int32) (x6 : Int32) (n : Nat) (j : Nat), (j ≤ 41) → (41 < j + fuel) → (n ≤ j) → (n = (sp_l3 itm (100 * dd) (zn dd / 3) j).1) → (¬ n = 0 → x5 = nI (sp_l3 itm (100 * dd) (zn dd / 3) j).2.1 - 20) → (¬ n = 0 → x6 = nI (sp_l3 itm (100 * dd) (zn dd / 3) j).2.2 - 20) → ∀ (ls : Array Slot), lv_has ls 11 [(0, .ref m0), (1, .int (nI dd)), (2, .int what), (4, .int (nI n)), (5, .int x5), (6, .int x6), (7, .int (nI j - 20))] → W p l e ({ frames := 4, cells := 0, slots := 0, locals := 192 } : Room) s m ([.ref m0, .int (nI dd), .int what] : List Value).toArray below meth c s.heap [] 0 0 (MQ below (vp_Si (fun r => r = sp_learn hol sor zn itm (nI dd) what)) ([.ref m0, .int (nI dd), .int what] : List Value).toArray s 0 0 (fun _ => False)) (F0 m 183 ls []) := by
                  intro fuel
                  induction fuel with
                  | zero =>
                    intro x5 x6 n j hj hf hnj hn hx5 hx6 ls hl
                    exact absurd hf (by omega)
                  | succ fuel ih_183 =>
                    intro x5 x6 n j hj hf hnj hn hx5 hx6 ls hl
                    refine lv_iload hx hb dX5_learn_183 (lv_at hl 6 rfl) ?_
                    refine lv_bipush (v := 20) hx hb dX5_learn_185 (by decide) ?_
                    refine lv_icmp_gt (tgt := 303) hx hb dX5_learn_187 (by decide) (fun c_187 => ?_) (fun c_187 => ?_)
                    · skip
                      have hj41 : 40 < j := (gt20 hj).mp c_187
                      refine lv_iload_n hx hb dX5_learn_303 rfl (lv_at hl 2 rfl) ?_
                      refine lv_if_ne (tgt := 312) hx hb dX5_learn_304 (by decide) (fun c_304 => ?_) (fun c_304 => ?_)
                      · skip
                        refine lv_iload hx hb dX5_learn_312 (lv_at hl 3 rfl) ?_
                        refine lv_if_ne (tgt := 322) hx hb dX5_learn_314 (by decide) (fun c_314 => ?_) (fun c_314 => ?_)
                        · skip
                          have n_c_314 : ¬ n = 0 := fun h9 => c_314 ((nI_eq (a := n) (b := 0) (by omega) (by omega)).mpr h9)
                          refine lv_bipush (v := 20) hx hb dX5_learn_322 (by decide) ?_
                          refine lv_iload_n hx hb dX5_learn_324 rfl (lv_at hl 2 rfl) ?_
                          refine lv_iconst (v := 1) hx hb dX5_learn_325 (by decide) ?_
                          refine lv_icmp_ne (tgt := 334) hx hb dX5_learn_326 (by decide) (fun c_326 => ?_) (fun c_326 => ?_)
                          · skip
                            refine lv_iload hx hb dX5_learn_334 (lv_at hl 5 rfl) ?_
                            refine lv_iadd hx hb dX5_learn_336 ?_
                            refine rt_si hx hb hr hlocks dX5_learn_337 ?_
                            have hw9 := bI_ne0 hx3 c_164
                            obtain rfl : j = 41 := by omega
                            rw [sp_learn, if_pos ⟨c_7, c_16⟩, e_dd, if_neg c_27, if_neg (fun h9 => h9.elim c_40 (fun h8 => h8 c_50)), sp_lrn, if_pos hw9, ← hn]
                            rw [if_neg c_304]
                            rw [if_neg n_c_314]
                            rw [if_neg c_326, hx6 n_c_314]; exact p20 _
                          · skip
                            refine lv_iload hx hb dX5_learn_329 (lv_at hl 4 rfl) ?_
                            refine lv_goto (tgt := 336) hx hb dX5_learn_331 (by decide) ?_
                            refine lv_iadd hx hb dX5_learn_336 ?_
                            refine rt_si hx hb hr hlocks dX5_learn_337 ?_
                            have hw9 := bI_ne0 hx3 c_164
                            obtain rfl : j = 41 := by omega
                            rw [sp_learn, if_pos ⟨c_7, c_16⟩, e_dd, if_neg c_27, if_neg (fun h9 => h9.elim c_40 (fun h8 => h8 c_50)), sp_lrn, if_pos hw9, ← hn]
                            rw [if_neg c_304]
                            rw [if_neg n_c_314]
                            rw [if_pos c_326, hx5 n_c_314]; exact p20 _
                        · skip
                          have n_c_314 : n = 0 := (nI_eq (a := n) (b := 0) (by omega) (by omega)).mp c_314
                          refine lv_bipush (v := (-4)) hx hb dX5_learn_317 (by decide) ?_
                          refine lv_goto (tgt := 337) hx hb dX5_learn_319 (by decide) ?_
                          refine rt_si hx hb hr hlocks dX5_learn_337 ?_
                          have hw9 := bI_ne0 hx3 c_164
                          obtain rfl : j = 41 := by omega
                          rw [sp_learn, if_pos ⟨c_7, c_16⟩, e_dd, if_neg c_27, if_neg (fun h9 => h9.elim c_40 (fun h8 => h8 c_50)), sp_lrn, if_pos hw9, ← hn]
                          rw [if_neg c_304]
                          rw [if_pos n_c_314]
                      · skip
                        refine lv_iload hx hb dX5_learn_307 (lv_at hl 3 rfl) ?_
                        refine lv_goto (tgt := 337) hx hb dX5_learn_309 (by decide) ?_
                        refine rt_si hx hb hr hlocks dX5_learn_337 ?_
                        have hw9 := bI_ne0 hx3 c_164
                        obtain rfl : j = 41 := by omega
                        rw [sp_learn, if_pos ⟨c_7, c_16⟩, e_dd, if_neg c_27, if_neg (fun h9 => h9.elim c_40 (fun h8 => h8 c_50)), sp_lrn, if_pos hw9, ← hn]
                        rw [if_pos c_304]
                    · skip
                      have hj41 : ¬ 40 < j := fun h9 => c_187 ((gt20 hj).mpr h9)
                      refine lv_iconst (v := 1) hx hb dX5_learn_190 (by decide) ?_
                      refine lv_istore (lv' := [(8, .int 1), (0, .ref m0), (1, .int (nI dd)), (2, .int what), (4, .int (nI n)), (5, .int x5), (6, .int x6), (7, .int (nI j - 20))]) hx hb dX5_learn_191 hl (by decide) rfl (fun ls hl => ?_)
                      refine lv_iconst (v := 0) hx hb dX5_learn_193 (by decide) ?_
                      refine lv_istore (lv' := [(9, .int 0), (8, .int 1), (0, .ref m0), (1, .int (nI dd)), (2, .int what), (4, .int (nI n)), (5, .int x5), (6, .int x6), (7, .int (nI j - 20))]) hx hb dX5_learn_194 hl (by decide) rfl (fun ls hl => ?_)
                      have K_196 : ∀ (fuel2 : Nat), ∀ (x8 : Int32) (k : Nat), (k ≤ zn dd / 3) → (zn dd / 3 < k + fuel2) → (x8 = bI (sp_fits itm (100 * dd) (nI j - 20) k = true)) → ∀ (ls : Array Slot), lv_has ls 11 [(0, .ref m0), (1, .int (nI dd)), (2, .int what), (4, .int (nI n)), (5, .int x5), (6, .int x6), (7, .int (nI j - 20)), (8, .int x8), (9, .int (nI k))] → W p l e ({ frames := 4, cells := 0, slots := 0, locals := 192 } : Room) s m ([.ref m0, .int (nI dd), .int what] : List Value).toArray below meth c s.heap [] 0 0 (MQ below (vp_Si (fun r => r = sp_learn hol sor zn itm (nI dd) what)) ([.ref m0, .int (nI dd), .int what] : List Value).toArray s 0 0 (fun _ => False)) (F0 m 196 ls []) := by
                        intro fuel2
                        induction fuel2 with
                        | zero =>
                          intro x8 k hk hf2 hx8 ls hl
                          exact absurd hf2 (by omega)
                        | succ fuel2 ih_196 =>
                          intro x8 k hk hf2 hx8 ls hl
                          refine lv_iload hx hb dX5_learn_196 (lv_at hl 8 rfl) ?_
                          refine lv_aload_n hx hb dX5_learn_198 rfl (lv_at hl 0 rfl) ?_
                          refine va_get (D := (dC, dI)) (ci := 4) (v := .ref (a 34)) (C := RX5) (T := TX5) (N := 41) hx hb hts in_X5 hown hK.1 hP 0 rfl rfl 34 (by decide) (hts _ q1126) (fun _ h9 => h9) rfl dX5_learn_199 ?_
                          refine lv_iload_n hx hb dX5_learn_202 rfl (lv_at hl 1 rfl) ?_
                          refine va_iald hx hb hK.1 hP 3 0 rfl rfl (vp_in_nI (by omega) (by omega)) dX5_learn_203 ?_
                          refine lv_eqi (y := (nI (zn dd))) (congrArg (nF zn) (nI_clamp (by omega))) ?_
                          refine lv_iconst (v := 3) hx hb dX5_learn_204 (by decide) ?_
                          refine lv_idiv hx hb dX5_learn_205 (by decide) ?_
                          refine lv_eqi (y := (nI (zn dd / 3))) (div3 hzd) ?_
                          refine lv_icmp_ge (tgt := 271) hx hb dX5_learn_206 (by decide) (fun c_206 => ?_) (fun c_206 => ?_)
                          · skip
                            have n_c_206 : (zn dd / 3) ≤ k := (nI_leI (a := (zn dd / 3)) (b := k) (by omega) (by omega)).mp c_206
                            refine lv_iload hx hb dX5_learn_271 (lv_at hl 7 rfl) ?_
                            refine lv_if_eq (tgt := 297) hx hb dX5_learn_273 (by decide) (fun c_273 => ?_) (fun c_273 => ?_)
                            · skip
                              have hno : ¬ sp_fits itm (100 * dd) (nI j - 20) (zn dd / 3) = true := by rw [← show k = zn dd / 3 from by omega]; exact bI_eq0 hx8 c_273
                              refine lv_iinc (v := (nI (j + 1) - 20)) (lv' := [(7, .int (nI (j + 1) - 20)), (0, .ref m0), (1, .int (nI dd)), (2, .int what), (4, .int (nI n)), (5, .int x5), (6, .int x6), (8, .int x8), (9, .int (nI k))]) hx hb dX5_learn_297 hl (k := 6) rfl (m20 j) (by decide) rfl (fun ls hl => ?_)
                              refine lv_goto (tgt := 183) hx hb dX5_learn_300 (by decide) ?_
                              exact ih_183 x5 x6 n (j + 1) (by omega) (by omega) (by omega) (by rw [l3_no hno]; exact hn) (by rw [l3_no hno]; exact hx5) (by rw [l3_no hno]; exact hx6) ls (lv_sub hl [1, 2, 3, 4, 5, 6, 0] rfl)
                            · skip
                              have hy : sp_fits itm (100 * dd) (nI j - 20) (zn dd / 3) = true := by rw [← show k = zn dd / 3 from by omega]; exact bI_ne0 hx8 c_273
                              refine lv_iload hx hb dX5_learn_276 (lv_at hl 3 rfl) ?_
                              refine lv_if_ne (tgt := 286) hx hb dX5_learn_278 (by decide) (fun c_278 => ?_) (fun c_278 => ?_)
                              · skip
                                have n_c_278 : ¬ n = 0 := fun h9 => c_278 ((nI_eq (a := n) (b := 0) (by omega) (by omega)).mpr h9)
                                refine lv_iload hx hb dX5_learn_286 (lv_at hl 4 rfl) ?_
                                refine lv_istore (lv' := [(5, .int x5), (0, .ref m0), (1, .int (nI dd)), (2, .int what), (4, .int (nI n)), (6, .int x6), (7, .int (nI j - 20)), (8, .int x8), (9, .int (nI k))]) hx hb dX5_learn_288 hl (by decide) rfl (fun ls hl => ?_)
                                refine lv_iload hx hb dX5_learn_290 (lv_at hl 6 rfl) ?_
                                refine lv_istore (lv' := [(6, .int (nI j - 20)), (5, .int x5), (0, .ref m0), (1, .int (nI dd)), (2, .int what), (4, .int (nI n)), (7, .int (nI j - 20)), (8, .int x8), (9, .int (nI k))]) hx hb dX5_learn_292 hl (by decide) rfl (fun ls hl => ?_)
                                refine lv_iinc (v := (nI (n + 1))) (lv' := [(4, .int (nI (n + 1))), (6, .int (nI j - 20)), (5, .int x5), (0, .ref m0), (1, .int (nI dd)), (2, .int what), (7, .int (nI j - 20)), (8, .int x8), (9, .int (nI k))]) hx hb dX5_learn_294 hl (k := 5) rfl (nI_1 n) (by decide) rfl (fun ls hl => ?_)
                                refine lv_iinc (v := (nI (j + 1) - 20)) (lv' := [(7, .int (nI (j + 1) - 20)), (4, .int (nI (n + 1))), (6, .int (nI j - 20)), (5, .int x5), (0, .ref m0), (1, .int (nI dd)), (2, .int what), (8, .int x8), (9, .int (nI k))]) hx hb dX5_learn_297 hl (k := 6) rfl (m20 j) (by decide) rfl (fun ls hl => ?_)
                                refine lv_goto (tgt := 183) hx hb dX5_learn_300 (by decide) ?_
                                exact ih_183 x5 (nI j - 20) (n + 1) (j + 1) (by omega) (by omega) (by omega) (by rw [l3_yes hy, hn]) (fun _ => by rw [l3_yes hy]; show _ = nI (if _ = 0 then j else _) - 20; rw [if_neg (fun h9 => n_c_278 (hn.trans h9))]; exact hx5 n_c_278) (fun _ => by rw [l3_yes hy]) ls (lv_sub hl [4, 5, 6, 1, 3, 2, 0] rfl)
                              · skip
                                have n_c_278 : n = 0 := (nI_eq (a := n) (b := 0) (by omega) (by omega)).mp c_278
                                refine lv_iload hx hb dX5_learn_281 (lv_at hl 6 rfl) ?_
                                refine lv_goto (tgt := 288) hx hb dX5_learn_283 (by decide) ?_
                                refine lv_istore (lv' := [(5, .int (nI j - 20)), (0, .ref m0), (1, .int (nI dd)), (2, .int what), (4, .int (nI n)), (6, .int x6), (7, .int (nI j - 20)), (8, .int x8), (9, .int (nI k))]) hx hb dX5_learn_288 hl (by decide) rfl (fun ls hl => ?_)
                                refine lv_iload hx hb dX5_learn_290 (lv_at hl 6 rfl) ?_
                                refine lv_istore (lv' := [(6, .int (nI j - 20)), (5, .int (nI j - 20)), (0, .ref m0), (1, .int (nI dd)), (2, .int what), (4, .int (nI n)), (7, .int (nI j - 20)), (8, .int x8), (9, .int (nI k))]) hx hb dX5_learn_292 hl (by decide) rfl (fun ls hl => ?_)
                                refine lv_iinc (v := (nI (n + 1))) (lv' := [(4, .int (nI (n + 1))), (6, .int (nI j - 20)), (5, .int (nI j - 20)), (0, .ref m0), (1, .int (nI dd)), (2, .int what), (7, .int (nI j - 20)), (8, .int x8), (9, .int (nI k))]) hx hb dX5_learn_294 hl (k := 5) rfl (nI_1 n) (by decide) rfl (fun ls hl => ?_)
                                refine lv_iinc (v := (nI (j + 1) - 20)) (lv' := [(7, .int (nI (j + 1) - 20)), (4, .int (nI (n + 1))), (6, .int (nI j - 20)), (5, .int (nI j - 20)), (0, .ref m0), (1, .int (nI dd)), (2, .int what), (8, .int x8), (9, .int (nI k))]) hx hb dX5_learn_297 hl (k := 6) rfl (m20 j) (by decide) rfl (fun ls hl => ?_)
                                refine lv_goto (tgt := 183) hx hb dX5_learn_300 (by decide) ?_
                                exact ih_183 (nI j - 20) (nI j - 20) (n + 1) (j + 1) (by omega) (by omega) (by omega) (by rw [l3_yes hy, hn]) (fun _ => by rw [l3_yes hy]; show _ = nI (if _ = 0 then j else _) - 20; rw [if_pos (hn.symm.trans n_c_278)]) (fun _ => by rw [l3_yes hy]) ls (lv_sub hl [4, 5, 6, 1, 3, 2, 0] rfl)
                          · skip
                            have n_c_206 : ¬ (zn dd / 3) ≤ k := fun h9 => c_206 ((nI_leI (a := (zn dd / 3)) (b := k) (by omega) (by omega)).mpr h9)
                            refine lv_bipush (v := 100) hx hb dX5_learn_209 (by decide) ?_
                            refine lv_iload_n hx hb dX5_learn_211 rfl (lv_at hl 1 rfl) ?_
                            refine lv_imul hx hb dX5_learn_212 ?_
                            refine lv_iconst (v := 3) hx hb dX5_learn_213 (by decide) ?_
                            refine lv_iload hx hb dX5_learn_214 (lv_at hl 8 rfl) ?_
                            refine lv_imul hx hb dX5_learn_216 ?_
                            refine lv_iadd hx hb dX5_learn_217 ?_
                            refine lv_eqi (y := (nI (100 * dd + 3 * k))) (c103 dd k) ?_
                            refine lv_istore (lv' := [(10, .int (nI (100 * dd + 3 * k))), (0, .ref m0), (1, .int (nI dd)), (2, .int what), (4, .int (nI n)), (5, .int x5), (6, .int x6), (7, .int (nI j - 20)), (8, .int x8), (9, .int (nI k))]) hx hb dX5_learn_218 hl (by decide) rfl (fun ls hl => ?_)
                            refine lv_iload hx hb dX5_learn_220 (lv_at hl 8 rfl) ?_
                            refine lv_if_eq (tgt := 262) hx hb dX5_learn_222 (by decide) (fun c_222 => ?_) (fun c_222 => ?_)
                            · skip
                              refine lv_iconst (v := 0) hx hb dX5_learn_262 (by decide) ?_
                              refine lv_istore (lv' := [(8, .int 0), (10, .int (nI (100 * dd + 3 * k))), (0, .ref m0), (1, .int (nI dd)), (2, .int what), (4, .int (nI n)), (5, .int x5), (6, .int x6), (7, .int (nI j - 20)), (9, .int (nI k))]) hx hb dX5_learn_263 hl (by decide) rfl (fun ls hl => ?_)
                              refine lv_iinc (v := (nI (k + 1))) (lv' := [(9, .int (nI (k + 1))), (8, .int 0), (10, .int (nI (100 * dd + 3 * k))), (0, .ref m0), (1, .int (nI dd)), (2, .int what), (4, .int (nI n)), (5, .int x5), (6, .int x6), (7, .int (nI j - 20))]) hx hb dX5_learn_265 hl (k := 9) rfl (nI_1 k) (by decide) rfl (fun ls hl => ?_)
                              refine lv_goto (tgt := 196) hx hb dX5_learn_268 (by decide) ?_
                              exact ih_196 0 (k + 1) (by omega) (by omega) (by clear hl hP hK hts; grind [sp_fits, bI]) ls (lv_sub hl [3, 4, 5, 6, 7, 8, 9, 1, 0] rfl)
                            · skip
                              refine lv_iload hx hb dX5_learn_225 (lv_at hl 7 rfl) ?_
                              refine lv_aload_n hx hb dX5_learn_227 rfl (lv_at hl 1 rfl) ?_
                              refine va_get (D := (dC, dI)) (ci := 4) (v := .ref (a 35)) (C := RX5) (T := TX5) (N := 41) hx hb hts in_X5 hown hK.1 hP 0 rfl rfl 35 (by decide) (hts _ q1127) (fun _ h9 => h9) rfl dX5_learn_228 ?_
                              refine lv_iload hx hb dX5_learn_231 (lv_at hl 0 rfl) ?_
                              refine va_iald hx hb hK.1 hP 4 0 rfl rfl (vp_in_nI (by omega) (by omega)) dX5_learn_233 ?_
                              refine lv_eqi (y := (itm (100 * dd + 3 * k))) (congrArg itm (nI_clamp (by omega))) ?_
                              refine lv_aload_n hx hb dX5_learn_234 rfl (lv_at hl 1 rfl) ?_
                              refine va_get (D := (dC, dI)) (ci := 4) (v := .ref (a 35)) (C := RX5) (T := TX5) (N := 41) hx hb hts in_X5 hown hK.1 hP 0 rfl rfl 35 (by decide) (hts _ q1127) (fun _ h9 => h9) rfl dX5_learn_235 ?_
                              refine lv_iload hx hb dX5_learn_238 (lv_at hl 0 rfl) ?_
                              refine lv_iconst (v := 1) hx hb dX5_learn_240 (by decide) ?_
                              refine lv_iadd hx hb dX5_learn_241 ?_
                              refine lv_eqi (y := (nI (100 * dd + 3 * k + 1))) (nI_1 _) ?_
                              refine va_iald hx hb hK.1 hP 4 0 rfl rfl (vp_in_nI (by omega) (by omega)) dX5_learn_242 ?_
                              refine lv_eqi (y := (itm (100 * dd + 3 * k + 1))) (congrArg itm (nI_clamp (by omega))) ?_
                              refine ro_S (rest := []) (As := [.int (nI j - 20), .int (itm (100 * dd + 3 * k)), .int (itm (100 * dd + 3 * k + 1))]) (wc := []) ⟨hx, hb, hml, hown, hts⟩ (met_X5_thought (nI j - 20) (itm (100 * dd + 3 * k)) (itm (100 * dd + 3 * k + 1))) (va_cwS 3 hts (lw_S q1272 q1273 q46 q1274) rfl rfl rfl hdS_X5_thought ⟨Nat.le_of_ble_eq_true rfl, Nat.le_of_ble_eq_true rfl⟩) hK hP [] rfl rfl hl.1 rfl (Nat.le_of_ble_eq_true rfl) dX5_learn_243 ⟨Nat.zero_le _, Nat.zero_le _⟩ (fun r_243 h_243 => ?_)
                              obtain rfl : r_243 = sp_th (nI j - 20) (itm (100 * dd + 3 * k)) (itm (100 * dd + 3 * k + 1)) := h_243
                              refine lv_aload_n hx hb dX5_learn_246 rfl (lv_at hl 1 rfl) ?_
                              refine va_get (D := (dC, dI)) (ci := 4) (v := .ref (a 35)) (C := RX5) (T := TX5) (N := 41) hx hb hts in_X5 hown hK.1 hP 0 rfl rfl 35 (by decide) (hts _ q1127) (fun _ h9 => h9) rfl dX5_learn_247 ?_
                              refine lv_iload hx hb dX5_learn_250 (lv_at hl 0 rfl) ?_
                              refine lv_iconst (v := 2) hx hb dX5_learn_252 (by decide) ?_
                              refine lv_iadd hx hb dX5_learn_253 ?_
                              refine lv_eqi (y := (nI (100 * dd + 3 * k + 2))) (nI_add _ 2) ?_
                              refine va_iald hx hb hK.1 hP 4 0 rfl rfl (vp_in_nI (by omega) (by omega)) dX5_learn_254 ?_
                              refine lv_eqi (y := (itm (100 * dd + 3 * k + 2))) (congrArg itm (nI_clamp (by omega))) ?_
                              refine lv_icmp_ne (tgt := 262) hx hb dX5_learn_255 (by decide) (fun c_255 => ?_) (fun c_255 => ?_)
                              · skip
                                refine lv_iconst (v := 0) hx hb dX5_learn_262 (by decide) ?_
                                refine lv_istore (lv' := [(8, .int 0), (10, .int (nI (100 * dd + 3 * k))), (0, .ref m0), (1, .int (nI dd)), (2, .int what), (4, .int (nI n)), (5, .int x5), (6, .int x6), (7, .int (nI j - 20)), (9, .int (nI k))]) hx hb dX5_learn_263 hl (by decide) rfl (fun ls hl => ?_)
                                refine lv_iinc (v := (nI (k + 1))) (lv' := [(9, .int (nI (k + 1))), (8, .int 0), (10, .int (nI (100 * dd + 3 * k))), (0, .ref m0), (1, .int (nI dd)), (2, .int what), (4, .int (nI n)), (5, .int x5), (6, .int x6), (7, .int (nI j - 20))]) hx hb dX5_learn_265 hl (k := 9) rfl (nI_1 k) (by decide) rfl (fun ls hl => ?_)
                                refine lv_goto (tgt := 196) hx hb dX5_learn_268 (by decide) ?_
                                exact ih_196 0 (k + 1) (by omega) (by omega) (by clear hl hP hK hts; grind [sp_fits, bI]) ls (lv_sub hl [3, 4, 5, 6, 7, 8, 9, 1, 0] rfl)
                              · skip
                                refine lv_iconst (v := 1) hx hb dX5_learn_258 (by decide) ?_
                                refine lv_goto (tgt := 263) hx hb dX5_learn_259 (by decide) ?_
                                refine lv_istore (lv' := [(8, .int 1), (10, .int (nI (100 * dd + 3 * k))), (0, .ref m0), (1, .int (nI dd)), (2, .int what), (4, .int (nI n)), (5, .int x5), (6, .int x6), (7, .int (nI j - 20)), (9, .int (nI k))]) hx hb dX5_learn_263 hl (by decide) rfl (fun ls hl => ?_)
                                refine lv_iinc (v := (nI (k + 1))) (lv' := [(9, .int (nI (k + 1))), (8, .int 1), (10, .int (nI (100 * dd + 3 * k))), (0, .ref m0), (1, .int (nI dd)), (2, .int what), (4, .int (nI n)), (5, .int x5), (6, .int x6), (7, .int (nI j - 20))]) hx hb dX5_learn_265 hl (k := 9) rfl (nI_1 k) (by decide) rfl (fun ls hl => ?_)
                                refine lv_goto (tgt := 196) hx hb dX5_learn_268 (by decide) ?_
                                exact ih_196 1 (k + 1) (by omega) (by omega) (by clear hl hP hK hts; grind [sp_fits, bI]) ls (lv_sub hl [3, 4, 5, 6, 7, 8, 9, 1, 0] rfl)
                      exact K_196 (zn dd / 3 + 1) 1 0 (by omega) (by omega) rfl ls (lv_sub hl [2, 3, 4, 5, 6, 7, 8, 1, 0] rfl)
                exact K_183 42 0 0 0 0 (by omega) (by omega) (by omega) rfl (fun h9 => absurd rfl h9) (fun h9 => absurd rfl h9) ls (lv_sub hl [4, 5, 6, 3, 2, 1, 0] rfl)
              · skip
                refine lv_bipush (v := (-13)) hx hb dX5_learn_167 (by decide) ?_
                refine rt_si hx hb hr hlocks dX5_learn_169 ?_
                clear hl hP hK hts
                have hw9 := bI_eq0 hx3 c_164
                rw [sp_learn, if_pos ⟨c_7, c_16⟩, e_dd, if_neg c_27, if_neg (by first | exact (fun h9 => h9.elim c_40 (fun h8 => h8 c_50)))]
                rw [sp_lrn, if_neg hw9]
            have K_76 : ∀ (fuel : Nat), ∀ (x3 : Int32) (k : Nat), (k ≤ zn dd / 3) → (zn dd / 3 < k + fuel) → (x3 = bI (zn dd % 3 = 0 ∧ sp_wells itm (100 * dd) k = true)) → ∀ (ls : Array Slot), lv_has ls 11 [(0, .ref m0), (1, .int (nI dd)), (2, .int what), (3, .int x3), (4, .int (nI k))] → W p l e ({ frames := 4, cells := 0, slots := 0, locals := 192 } : Room) s m ([.ref m0, .int (nI dd), .int what] : List Value).toArray below meth c s.heap [] 0 0 (MQ below (vp_Si (fun r => r = sp_learn hol sor zn itm (nI dd) what)) ([.ref m0, .int (nI dd), .int what] : List Value).toArray s 0 0 (fun _ => False)) (F0 m 76 ls []) := by
              intro fuel
              induction fuel with
              | zero =>
                intro x3 k hk hf hx3 ls hl
                exact absurd hf (by omega)
              | succ fuel ih_76 =>
                intro x3 k hk hf hx3 ls hl
                refine lv_iload hx hb dX5_learn_76 (lv_at hl 4 rfl) ?_
                refine lv_aload_n hx hb dX5_learn_78 rfl (lv_at hl 0 rfl) ?_
                refine va_get (D := (dC, dI)) (ci := 4) (v := .ref (a 34)) (C := RX5) (T := TX5) (N := 41) hx hb hts in_X5 hown hK.1 hP 0 rfl rfl 34 (by decide) (hts _ q1126) (fun _ h9 => h9) rfl dX5_learn_79 ?_
                refine lv_iload_n hx hb dX5_learn_82 rfl (lv_at hl 1 rfl) ?_
                refine va_iald hx hb hK.1 hP 3 0 rfl rfl (vp_in_nI (by omega) (by omega)) dX5_learn_83 ?_
                refine lv_eqi (y := (nI (zn dd))) (congrArg (nF zn) (nI_clamp (by omega))) ?_
                refine lv_iconst (v := 3) hx hb dX5_learn_84 (by decide) ?_
                refine lv_idiv hx hb dX5_learn_85 (by decide) ?_
                refine lv_eqi (y := (nI (zn dd / 3))) (div3 hzd) ?_
                refine lv_icmp_ge (tgt := 163) hx hb dX5_learn_86 (by decide) (fun c_86 => ?_) (fun c_86 => ?_)
                · skip
                  have n_c_86 : (zn dd / 3) ≤ k := (nI_leI (a := (zn dd / 3)) (b := k) (by omega) (by omega)).mp c_86
                  exact K_163 x3 (by clear hl hP hK hts; rw [hx3]; exact bI_congr (by obtain rfl : k = zn dd / 3 := (by omega); exact Iff.rfl)) ls (lv_sub hl [0, 1, 2, 3] rfl)
                · skip
                  have n_c_86 : ¬ (zn dd / 3) ≤ k := fun h9 => c_86 ((nI_leI (a := (zn dd / 3)) (b := k) (by omega) (by omega)).mpr h9)
                  refine lv_iload_n hx hb dX5_learn_89 rfl (lv_at hl 3 rfl) ?_
                  refine lv_if_eq (tgt := 163) hx hb dX5_learn_90 (by decide) (fun c_90 => ?_) (fun c_90 => ?_)
                  · skip
                    exact K_163 x3 (wells_off hk hx3 c_90) ls (lv_sub hl [0, 1, 2, 3] rfl)
                  · skip
                    refine lv_bipush (v := 100) hx hb dX5_learn_93 (by decide) ?_
                    refine lv_iload_n hx hb dX5_learn_95 rfl (lv_at hl 1 rfl) ?_
                    refine lv_imul hx hb dX5_learn_96 ?_
                    refine lv_iconst (v := 3) hx hb dX5_learn_97 (by decide) ?_
                    refine lv_iload hx hb dX5_learn_98 (lv_at hl 4 rfl) ?_
                    refine lv_imul hx hb dX5_learn_100 ?_
                    refine lv_iadd hx hb dX5_learn_101 ?_
                    refine lv_eqi (y := (nI (100 * dd + 3 * k))) (c103 dd k) ?_
                    refine lv_istore (lv' := [(5, .int (nI (100 * dd + 3 * k))), (0, .ref m0), (1, .int (nI dd)), (2, .int what), (3, .int x3), (4, .int (nI k))]) hx hb dX5_learn_102 hl (by decide) rfl (fun ls hl => ?_)
                    refine lv_aload_n hx hb dX5_learn_104 rfl (lv_at hl 1 rfl) ?_
                    refine va_get (D := (dC, dI)) (ci := 4) (v := .ref (a 35)) (C := RX5) (T := TX5) (N := 41) hx hb hts in_X5 hown hK.1 hP 0 rfl rfl 35 (by decide) (hts _ q1127) (fun _ h9 => h9) rfl dX5_learn_105 ?_
                    refine lv_iload hx hb dX5_learn_108 (lv_at hl 0 rfl) ?_
                    refine va_iald hx hb hK.1 hP 4 0 rfl rfl (vp_in_nI (by omega) (by omega)) dX5_learn_110 ?_
                    refine lv_eqi (y := (itm (100 * dd + 3 * k))) (congrArg itm (nI_clamp (by omega))) ?_
                    refine ro_S (rest := []) (As := [.int (itm (100 * dd + 3 * k))]) (wc := []) ⟨hx, hb, hml, hown, hts⟩ (met_X5_isMinute (itm (100 * dd + 3 * k))) (va_cwS 1 hts (lw_S q1231 q1232 q46 q1233) rfl rfl rfl hdS_X5_isMinute ⟨Nat.le_of_ble_eq_true rfl, Nat.le_of_ble_eq_true rfl⟩) hK hP [] rfl rfl hl.1 rfl (Nat.le_of_ble_eq_true rfl) dX5_learn_111 ⟨Nat.zero_le _, Nat.zero_le _⟩ (fun r_111 h_111 => ?_)
                    obtain rfl : r_111 = bI (0 ≤ (itm (100 * dd + 3 * k)) ∧ (itm (100 * dd + 3 * k)) ≤ 719) := h_111
                    refine lv_if_eq (tgt := 155) hx hb dX5_learn_114 (by decide) (fun c_114 => ?_) (fun c_114 => ?_)
                    · skip
                      have c_114 := bI_eq0 (P := 0 ≤ (itm (100 * dd + 3 * k)) ∧ (itm (100 * dd + 3 * k)) ≤ 719) rfl c_114
                      refine lv_iconst (v := 0) hx hb dX5_learn_155 (by decide) ?_
                      refine lv_istore_n (lv' := [(3, .int 0), (5, .int (nI (100 * dd + 3 * k))), (0, .ref m0), (1, .int (nI dd)), (2, .int what), (4, .int (nI k))]) hx hb dX5_learn_156 rfl hl (by decide) rfl (fun ls hl => ?_)
                      refine lv_iinc (v := (nI (k + 1))) (lv' := [(4, .int (nI (k + 1))), (3, .int 0), (5, .int (nI (100 * dd + 3 * k))), (0, .ref m0), (1, .int (nI dd)), (2, .int what)]) hx hb dX5_learn_157 hl (k := 5) rfl (nI_1 k) (by decide) rfl (fun ls hl => ?_)
                      refine lv_goto (tgt := 76) hx hb dX5_learn_160 (by decide) ?_
                      exact ih_76 0 (k + 1) (by omega) (by omega) (by clear hl hP hK hts; have hw9 := bI_ne0 hx3 c_90; grind [sp_wells, bI]) ls (lv_sub hl [3, 4, 5, 1, 0] rfl)
                    · skip
                      have c_114 := bI_ne0 (P := 0 ≤ (itm (100 * dd + 3 * k)) ∧ (itm (100 * dd + 3 * k)) ≤ 719) rfl c_114
                      refine lv_aload_n hx hb dX5_learn_117 rfl (lv_at hl 1 rfl) ?_
                      refine va_get (D := (dC, dI)) (ci := 4) (v := .ref (a 35)) (C := RX5) (T := TX5) (N := 41) hx hb hts in_X5 hown hK.1 hP 0 rfl rfl 35 (by decide) (hts _ q1127) (fun _ h9 => h9) rfl dX5_learn_118 ?_
                      refine lv_iload hx hb dX5_learn_121 (lv_at hl 0 rfl) ?_
                      refine lv_iconst (v := 1) hx hb dX5_learn_123 (by decide) ?_
                      refine lv_iadd hx hb dX5_learn_124 ?_
                      refine lv_eqi (y := (nI (100 * dd + 3 * k + 1))) (nI_1 _) ?_
                      refine va_iald hx hb hK.1 hP 4 0 rfl rfl (vp_in_nI (by omega) (by omega)) dX5_learn_125 ?_
                      refine lv_eqi (y := (itm (100 * dd + 3 * k + 1))) (congrArg itm (nI_clamp (by omega))) ?_
                      refine ro_S (rest := []) (As := [.int (itm (100 * dd + 3 * k + 1))]) (wc := []) ⟨hx, hb, hml, hown, hts⟩ (met_X5_isMinute (itm (100 * dd + 3 * k + 1))) (va_cwS 1 hts (lw_S q1231 q1232 q46 q1233) rfl rfl rfl hdS_X5_isMinute ⟨Nat.le_of_ble_eq_true rfl, Nat.le_of_ble_eq_true rfl⟩) hK hP [] rfl rfl hl.1 rfl (Nat.le_of_ble_eq_true rfl) dX5_learn_126 ⟨Nat.zero_le _, Nat.zero_le _⟩ (fun r_126 h_126 => ?_)
                      obtain rfl : r_126 = bI (0 ≤ (itm (100 * dd + 3 * k + 1)) ∧ (itm (100 * dd + 3 * k + 1)) ≤ 719) := h_126
                      refine lv_if_eq (tgt := 155) hx hb dX5_learn_129 (by decide) (fun c_129 => ?_) (fun c_129 => ?_)
                      · skip
                        have c_129 := bI_eq0 (P := 0 ≤ (itm (100 * dd + 3 * k + 1)) ∧ (itm (100 * dd + 3 * k + 1)) ≤ 719) rfl c_129
                        refine lv_iconst (v := 0) hx hb dX5_learn_155 (by decide) ?_
                        refine lv_istore_n (lv' := [(3, .int 0), (5, .int (nI (100 * dd + 3 * k))), (0, .ref m0), (1, .int (nI dd)), (2, .int what), (4, .int (nI k))]) hx hb dX5_learn_156 rfl hl (by decide) rfl (fun ls hl => ?_)
                        refine lv_iinc (v := (nI (k + 1))) (lv' := [(4, .int (nI (k + 1))), (3, .int 0), (5, .int (nI (100 * dd + 3 * k))), (0, .ref m0), (1, .int (nI dd)), (2, .int what)]) hx hb dX5_learn_157 hl (k := 5) rfl (nI_1 k) (by decide) rfl (fun ls hl => ?_)
                        refine lv_goto (tgt := 76) hx hb dX5_learn_160 (by decide) ?_
                        exact ih_76 0 (k + 1) (by omega) (by omega) (by clear hl hP hK hts; have hw9 := bI_ne0 hx3 c_90; grind [sp_wells, bI]) ls (lv_sub hl [3, 4, 5, 1, 0] rfl)
                      · skip
                        have c_129 := bI_ne0 (P := 0 ≤ (itm (100 * dd + 3 * k + 1)) ∧ (itm (100 * dd + 3 * k + 1)) ≤ 719) rfl c_129
                        refine lv_aload_n hx hb dX5_learn_132 rfl (lv_at hl 1 rfl) ?_
                        refine va_get (D := (dC, dI)) (ci := 4) (v := .ref (a 35)) (C := RX5) (T := TX5) (N := 41) hx hb hts in_X5 hown hK.1 hP 0 rfl rfl 35 (by decide) (hts _ q1127) (fun _ h9 => h9) rfl dX5_learn_133 ?_
                        refine lv_iload hx hb dX5_learn_136 (lv_at hl 0 rfl) ?_
                        refine va_iald hx hb hK.1 hP 4 0 rfl rfl (vp_in_nI (by omega) (by omega)) dX5_learn_138 ?_
                        refine lv_eqi (y := (itm (100 * dd + 3 * k))) (congrArg itm (nI_clamp (by omega))) ?_
                        refine lv_aload_n hx hb dX5_learn_139 rfl (lv_at hl 1 rfl) ?_
                        refine va_get (D := (dC, dI)) (ci := 4) (v := .ref (a 35)) (C := RX5) (T := TX5) (N := 41) hx hb hts in_X5 hown hK.1 hP 0 rfl rfl 35 (by decide) (hts _ q1127) (fun _ h9 => h9) rfl dX5_learn_140 ?_
                        refine lv_iload hx hb dX5_learn_143 (lv_at hl 0 rfl) ?_
                        refine lv_iconst (v := 1) hx hb dX5_learn_145 (by decide) ?_
                        refine lv_iadd hx hb dX5_learn_146 ?_
                        refine lv_eqi (y := (nI (100 * dd + 3 * k + 1))) (nI_1 _) ?_
                        refine va_iald hx hb hK.1 hP 4 0 rfl rfl (vp_in_nI (by omega) (by omega)) dX5_learn_147 ?_
                        refine lv_eqi (y := (itm (100 * dd + 3 * k + 1))) (congrArg itm (nI_clamp (by omega))) ?_
                        refine lv_icmp_ge (tgt := 155) hx hb dX5_learn_148 (by decide) (fun c_148 => ?_) (fun c_148 => ?_)
                        · skip
                          refine lv_iconst (v := 0) hx hb dX5_learn_155 (by decide) ?_
                          refine lv_istore_n (lv' := [(3, .int 0), (5, .int (nI (100 * dd + 3 * k))), (0, .ref m0), (1, .int (nI dd)), (2, .int what), (4, .int (nI k))]) hx hb dX5_learn_156 rfl hl (by decide) rfl (fun ls hl => ?_)
                          refine lv_iinc (v := (nI (k + 1))) (lv' := [(4, .int (nI (k + 1))), (3, .int 0), (5, .int (nI (100 * dd + 3 * k))), (0, .ref m0), (1, .int (nI dd)), (2, .int what)]) hx hb dX5_learn_157 hl (k := 5) rfl (nI_1 k) (by decide) rfl (fun ls hl => ?_)
                          refine lv_goto (tgt := 76) hx hb dX5_learn_160 (by decide) ?_
                          exact ih_76 0 (k + 1) (by omega) (by omega) (by clear hl hP hK hts; have hw9 := bI_ne0 hx3 c_90; grind [sp_wells, bI]) ls (lv_sub hl [3, 4, 5, 1, 0] rfl)
                        · skip
                          refine lv_iconst (v := 1) hx hb dX5_learn_151 (by decide) ?_
                          refine lv_goto (tgt := 156) hx hb dX5_learn_152 (by decide) ?_
                          refine lv_istore_n (lv' := [(3, .int 1), (5, .int (nI (100 * dd + 3 * k))), (0, .ref m0), (1, .int (nI dd)), (2, .int what), (4, .int (nI k))]) hx hb dX5_learn_156 rfl hl (by decide) rfl (fun ls hl => ?_)
                          refine lv_iinc (v := (nI (k + 1))) (lv' := [(4, .int (nI (k + 1))), (3, .int 1), (5, .int (nI (100 * dd + 3 * k))), (0, .ref m0), (1, .int (nI dd)), (2, .int what)]) hx hb dX5_learn_157 hl (k := 5) rfl (nI_1 k) (by decide) rfl (fun ls hl => ?_)
                          refine lv_goto (tgt := 76) hx hb dX5_learn_160 (by decide) ?_
                          exact ih_76 1 (k + 1) (by omega) (by omega) (by clear hl hP hK hts; have hw9 := bI_ne0 hx3 c_90; grind [sp_wells, bI]) ls (lv_sub hl [3, 4, 5, 1, 0] rfl)
            refine lv_aload_n hx hb dX5_learn_56 rfl (lv_at hl 0 rfl) ?_
            refine va_get (D := (dC, dI)) (ci := 4) (v := .ref (a 34)) (C := RX5) (T := TX5) (N := 41) hx hb hts in_X5 hown hK.1 hP 0 rfl rfl 34 (by decide) (hts _ q1126) (fun _ h9 => h9) rfl dX5_learn_57 ?_
            refine lv_iload_n hx hb dX5_learn_60 rfl (lv_at hl 1 rfl) ?_
            refine va_iald hx hb hK.1 hP 3 0 rfl rfl (vp_in_nI (by omega) (by omega)) dX5_learn_61 ?_
            refine lv_eqi (y := (nI (zn dd))) (congrArg (nF zn) (nI_clamp (by omega))) ?_
            refine lv_iconst (v := 3) hx hb dX5_learn_62 (by decide) ?_
            refine lv_irem hx hb dX5_learn_63 (by decide) ?_
            refine lv_eqi (y := (nI (zn dd % 3))) (rem3 hzd) ?_
            refine lv_if_ne (tgt := 71) hx hb dX5_learn_64 (by decide) (fun c_64 => ?_) (fun c_64 => ?_)
            · skip
              have n_c_64 : ¬ (zn dd % 3) = 0 := fun h9 => c_64 ((nI_eq (a := (zn dd % 3)) (b := 0) (by omega) (by omega)).mpr h9)
              refine lv_iconst (v := 0) hx hb dX5_learn_71 (by decide) ?_
              refine lv_istore_n (lv' := [(3, .int 0), (0, .ref m0), (1, .int (nI dd)), (2, .int what)]) hx hb dX5_learn_72 rfl hl (by decide) rfl (fun ls hl => ?_)
              refine lv_iconst (v := 0) hx hb dX5_learn_73 (by decide) ?_
              refine lv_istore (lv' := [(4, .int 0), (3, .int 0), (0, .ref m0), (1, .int (nI dd)), (2, .int what)]) hx hb dX5_learn_74 hl (by decide) rfl (fun ls hl => ?_)
              exact K_76 (zn dd / 3 + 1) 0 0 (by omega) (by omega) (by clear hl hP hK hts; first | exact (bI_t ⟨(nI_eq (b := 0) (by omega) (by decide)).mp c_64, rfl⟩).symm | exact (bI_f (fun h9 => c_64 ((nI_eq (b := 0) (by omega) (by decide)).mpr h9.1))).symm) ls (lv_sub hl [2, 3, 4, 1, 0] rfl)
            · skip
              have n_c_64 : (zn dd % 3) = 0 := (nI_eq (a := (zn dd % 3)) (b := 0) (by omega) (by omega)).mp c_64
              refine lv_iconst (v := 1) hx hb dX5_learn_67 (by decide) ?_
              refine lv_goto (tgt := 72) hx hb dX5_learn_68 (by decide) ?_
              refine lv_istore_n (lv' := [(3, .int 1), (0, .ref m0), (1, .int (nI dd)), (2, .int what)]) hx hb dX5_learn_72 rfl hl (by decide) rfl (fun ls hl => ?_)
              refine lv_iconst (v := 0) hx hb dX5_learn_73 (by decide) ?_
              refine lv_istore (lv' := [(4, .int 0), (3, .int 1), (0, .ref m0), (1, .int (nI dd)), (2, .int what)]) hx hb dX5_learn_74 hl (by decide) rfl (fun ls hl => ?_)
              exact K_76 (zn dd / 3 + 1) 1 0 (by omega) (by omega) (by clear hl hP hK hts; first | exact (bI_t ⟨(nI_eq (b := 0) (by omega) (by decide)).mp c_64, rfl⟩).symm | exact (bI_f (fun h9 => c_64 ((nI_eq (b := 0) (by omega) (by decide)).mpr h9.1))).symm) ls (lv_sub hl [2, 3, 4, 1, 0] rfl)
          · skip
            refine lv_bipush (v := (-12)) hx hb dX5_learn_53 (by decide) ?_
            refine rt_si hx hb hr hlocks dX5_learn_55 ?_
            clear hl hP hK hts
            grind [sp_learn]
      · skip
        refine lv_bipush (v := (-11)) hx hb dX5_learn_30 (by decide) ?_
        refine rt_si hx hb hr hlocks dX5_learn_32 ?_
        clear hl hP hK hts
        grind [sp_learn]
    · skip
      have c_16 := bI_eq0 (P := 0 ≤ what ∧ what ≤ 2) rfl c_16
      refine lv_iconst (v := (-1)) hx hb dX5_learn_19 (by decide) ?_
      refine rt_si hx hb hr hlocks dX5_learn_20 ?_
      clear hl hP hK hts
      grind [sp_learn]
