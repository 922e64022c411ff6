/-! small rows -/
theorem vin {i : Int32} {n : Nat} (h : 0 ≤ i.toInt ∧ i.toInt < n) : vp_in i n := vp_in_iff.mpr h
theorem nI_sub1 {n : Nat} (hn : n < 2 ^ 31) : (nI n - 1).toInt = (n : Int) - 1 := by
  have h1 := nI_toInt hn
  rw [Int32.toInt_sub, h1, show (1 : Int32).toInt = 1 from by decide, Int.bmod_eq_of_le (by omega) (by omega)]
theorem in_nI {w : Int32} {n N : Nat} (hn : n ≤ N) (hN : N < 2 ^ 31) (h : 0 ≤ w ∧ w ≤ nI n - 1) : vp_in w N := by
  have h1 := Int32.le_iff_toInt_le.mp h.1
  have h2 := Int32.le_iff_toInt_le.mp h.2
  rw [nI_sub1 (by omega)] at h2
  rw [show (0 : Int32).toInt = 0 from by decide] at h1
  exact vp_in_iff.mpr ⟨h1, by omega⟩
theorem ix_nI {w : Int32} {n : Nat} (hN : n < 2 ^ 31) (h : 0 ≤ w ∧ w ≤ nI n - 1) : ∃ j : Nat, j < n ∧ w = nI j := vp_in_of (in_nI (Nat.le_refl n) hN h) hN
theorem in_lit {w k : Int32} {N : Nat} (hk : k.toInt < N) (h : 0 ≤ w ∧ w ≤ k) : vp_in w N := by
  have h1 := Int32.le_iff_toInt_le.mp h.1
  have h2 := Int32.le_iff_toInt_le.mp h.2
  rw [show (0 : Int32).toInt = 0 from by decide] at h1
  exact vp_in_iff.mpr ⟨h1, by omega⟩
theorem ix_lit {w k : Int32} (N : Nat) (hk : k.toInt < N) (hN : N < 2 ^ 31) (h : 0 ≤ w ∧ w ≤ k) : ∃ j : Nat, j < N ∧ w = nI j := vp_in_of (in_lit hk h) hN
theorem no_nI {j n : Nat} (hj : j < 2 ^ 31) (hn : n < 2 ^ 31) : (0 ≤ nI j ∧ nI j ≤ nI n - 1) ↔ j < n := by
  rw [Int32.le_iff_toInt_le, Int32.le_iff_toInt_le, nI_sub1 hn, nI_toInt hj, show (0 : Int32).toInt = 0 from by decide]
  omega
/-- the model's four numbers: works, lookers, minutes of the plan, the law -/
def mn4 (wn kn pn : Nat) (lw : Int32) : Nat → Int32 := fun i => match i with | 0 => nI wn | 1 => nI kn | 2 => nI pn | _ => lw
def imax (x y : Int32) : Int32 := if x < y then y else x
def imin (x y : Int32) : Int32 := if y < x then y else x
theorem bI_fit {P : Prop} [Decidable P] : fits .boolean (.int (bI P)) = true := by
  by_cases h : P
  · rw [bI_t h]; rfl
  · rw [bI_f h]; rfl
theorem sw_out {x : Int32} {lo : Int} {n : Nat} (h : ∀ j : Nat, j < n → (Int32.ofInt (lo + j)).toInt = lo + j) (hx : ∀ j : Nat, j < n → ¬ x = Int32.ofInt (lo + j)) : x.toInt < lo ∨ lo + (n : Int) - 1 < x.toInt := by
  rcases Int.lt_or_le x.toInt lo with a | a
  · exact Or.inl a
  · rcases Int.lt_or_le (lo + (n : Int) - 1) x.toInt with b | b
    · exact Or.inr b
    · exfalso
      have hj : (x.toInt - lo).toNat < n := by omega
      have e : lo + ((x.toInt - lo).toNat : Int) = x.toInt := by omega
      exact hx _ hj (by rw [e, Int32.ofInt_toInt])
section BASE3
variable {p : Program} {l : Launch} {e : Env} {R : Room} {s : State} {m : MethodId} {args : Array Value} {below : List Frame} {meth : Method} {c : Code} {H : Heap} {locs : List Loc} {cells slots : Nat} {Q : State → Prop}
variable {cc : ByteArray} {pc : Nat} {ls : Array Slot} {rest : List Value}
theorem lv_eqi {x y : Int32} (h : x = y) (k : W p l e R s m args below meth c H locs cells slots Q (F0 m pc ls (.int y :: rest))) : W p l e R s m args below meth c H locs cells slots Q (F0 m pc ls (.int x :: rest)) := by rw [h]; exact k
theorem lv_eqq {x y : Option Nat} (h : x = y) (k : W p l e R s m args below meth c H locs cells slots Q (F0 m pc ls (va_rf y :: rest))) : W p l e R s m args below meth c H locs cells slots Q (F0 m pc ls (va_rf x :: rest)) := by rw [h]; exact k
end BASE3
theorem k_arr_int {D : va_G} {dA : Nat → ClassId} {U : State} {c : ClassId} (hK : va_K D vwCl (tys7 dA) U) (h : ArrOfT U c .int ∧ va_RA U c .int) : c = dA 0 := Option.some.inj ((va_nm_int h.2).symm.trans (va_nm_int (hK.2 0 _ rfl).2))
theorem k_arr_byte {D : va_G} {dA : Nat → ClassId} {U : State} {c : ClassId} (hK : va_K D vwCl (tys7 dA) U) (h : ArrOfT U c .byte ∧ va_RA U c .byte) : c = dA 1 := Option.some.inj ((va_nm_byte h.2).symm.trans (va_nm_byte (hK.2 1 _ rfl).2))
theorem k_arr_short {D : va_G} {dA : Nat → ClassId} {U : State} {c : ClassId} (hK : va_K D vwCl (tys7 dA) U) (h : ArrOfT U c .short ∧ va_RA U c .short) : c = dA 2 := Option.some.inj ((va_nm_short h.2).symm.trans (va_nm_short (hK.2 2 _ rfl).2))
theorem k_arr_long {D : va_G} {dA : Nat → ClassId} {U : State} {c : ClassId} (hK : va_K D vwCl (tys7 dA) U) (h : ArrOfT U c .long ∧ va_RA U c .long) : c = dA 5 := Option.some.inj ((va_nm_long h.2).symm.trans (va_nm_long (hK.2 5 _ rfl).2))
/-- the model's fields: references by a, ints by v, of the field's number -/
abbrev moF (a : Nat → Nat) (v : Nat → Int32) : List Value := [.ref (a 0), .ref (a 1), .ref (a 2), .ref (a 3), .ref (a 4), .ref (a 5), .ref (a 6), .ref (a 7), .ref (a 8), .int (v 9), .ref (a 10), .ref (a 11), .ref (a 12), .ref (a 13), .ref (a 14), .ref (a 15), .ref (a 16), .ref (a 17), .ref (a 18), .int (v 19), .int (v 20), .ref (a 21), .int (v 22), .int (v 23), .int (v 24), .ref (a 25), .ref (a 26), .int (v 27), .int (v 28), .int (v 29), .int (v 30), .ref (a 31), .ref (a 32), .ref (a 33), .ref (a 34), .ref (a 35), .ref (a 36), .ref (a 37), .ref (a 38), .ref (a 39), .int (v 40)]
/-! what is computed, in plain words: small things -/
def sp_hour (mi : Int32) : Int32 := if mi / 60 = 0 then 12 else mi / 60
/-- the price by a law, at a minute -/
def sp_by (law mi : Int32) : Int32 := if law = 0 then sp_hour mi else if law = 1 then sp_hour mi + (mi - mi / 60 * 60) / 10 else 6
def sp_th (d lk mi : Int32) : Int32 := mi + (mi - lk) * d / 60
def sp_early (kd f : Int32) : Int32 := if kd = 1 then 2 * f else if kd = 6 then f else 0
def sp_price (lw mi : Int32) : Int32 := if 0 ≤ mi ∧ mi ≤ 719 then sp_by lw mi else -1
def sp_work (wn : Nat) (att wal fin : Nat → Int32) (w what : Int32) : Int32 := if 0 ≤ w ∧ w ≤ nI wn - 1 then if 0 ≤ what ∧ what ≤ 2 then if what = 0 then att w.toNatClampNeg else if what = 1 then wal w.toNatClampNeg else fin w.toNatClampNeg else -1 else -1
def sp_looker (kn : Nat) (knd fig wak : Nat → Int32) (k what : Int32) : Int32 := if 0 ≤ k ∧ k ≤ nI kn - 1 then if 0 ≤ what ∧ what ≤ 3 then if what = 0 then knd k.toNatClampNeg else if what = 1 then fig k.toNatClampNeg else if what = 2 then wak k.toNatClampNeg else sp_early (knd k.toNatClampNeg) (fig k.toNatClampNeg) else -1 else -1
def sp_drift (kn : Nat) (dri : Nat → Int32) (k : Int32) : Int32 := if 0 ≤ k ∧ k ≤ nI kn - 1 then dri k.toNatClampNeg else -1000000001
def sp_thinks (kn : Nat) (dri : Nat → Int32) (k lk mi : Int32) : Int32 := if (0 ≤ k ∧ k ≤ nI kn - 1) ∧ (0 ≤ lk ∧ lk ≤ 719) ∧ (0 ≤ mi ∧ mi ≤ 719) ∧ lk ≤ mi then sp_th (dri k.toNatClampNeg) lk mi else -1000000001
abbrev sp_clock (kd : Int32) : Prop := kd = 2 ∨ kd = 3 ∨ kd = 5 ∨ kd = 7
def sp_pays (kd pr : Int32) : Int32 := if kd = 5 then (pr + 1) / 2 else if kd = 7 then imax 0 (pr - 2) else pr
def sp_share (pr n : Int32) : Int32 := (pr + n - 1) / n
def sp_shared (lw mi n : Int32) : Int32 := if 0 ≤ mi ∧ mi ≤ 719 then if 1 ≤ n ∧ n ≤ 9 then sp_share (sp_by lw mi) n else -1 else -1
def sp_nl (pr mm : Int32) : Nat → Nat → Int32
  | 0, _ => -4
  | f + 1, k => if 10 ≤ k then -4 else if mm < sp_share pr (nI k) then sp_nl pr mm f (k + 1) else nI k
def sp_nine (lw mi mm : Int32) : Int32 := if 0 ≤ mi ∧ mi ≤ 719 then if 1 ≤ mm ∧ mm ≤ 20 then sp_nl (sp_by lw mi) mm 10 1 else -1 else -1
def sp_sold (lw mi w a0 c0 : Int32) : Prop := a0 + w * c0 < sp_by lw mi
def sp_buys (lw mi w a0 c0 : Int32) : Int32 := if (0 ≤ mi ∧ mi ≤ 719) ∧ (0 ≤ w ∧ w ≤ 60) ∧ (0 ≤ a0 ∧ a0 ≤ 12) ∧ (0 ≤ c0 ∧ c0 ≤ 9) then if a0 + w * c0 < sp_by lw mi then 1 else 0 else -1
def sp_rl (lw mi w c0 : Int32) : Nat → Int32
  | 0 => -4
  | k + 1 => if nI k + w * c0 < sp_by lw mi then nI k else sp_rl lw mi w c0 k
def sp_rest (lw mi w c0 : Int32) : Int32 := if (0 ≤ mi ∧ mi ≤ 719) ∧ (0 ≤ w ∧ w ≤ 60) ∧ (0 ≤ c0 ∧ c0 ≤ 9) then sp_rl lw mi w c0 13 else -1
def sp_other (lw mi : Int32) : Int32 := sp_by lw ((mi + 60) - (mi + 60) / 720 * 720)
def sp_cheaper (lw mi : Int32) : Int32 := if 0 ≤ mi ∧ mi ≤ 719 then imin (sp_by lw mi) (sp_other lw mi) else -1
def sp_oc (lw : Int32) : Nat → Int32
  | 0 => 0
  | k + 1 => sp_oc lw k + (if sp_other lw (nI k) < sp_by lw (nI k) then 1 else 0)
def sp_wl (lw pr : Int32) (j : Nat) : Nat → Nat → Int32
  | 0, _ => -4
  | f + 1, k => if 719 < k then -4 else if pr < sp_by lw (nI k) then sp_wl lw pr j f (k + 1) else nI k - nI j
def sp_waits (lw mi pr : Int32) : Int32 := if 0 ≤ mi ∧ mi ≤ 719 then if 0 ≤ pr ∧ pr ≤ 20 then sp_wl lw pr mi.toNatClampNeg 721 mi.toNatClampNeg else -1 else -1
def sp_sum (wal : Nat → Int32) : Nat → Int32
  | 0 => 0
  | k + 1 => sp_sum wal k + wal k
def sp_count (wn kn pn : Nat) (lw : Int32) (wal : Nat → Int32) (what : Int32) : Int32 := if what = 0 then nI wn else if what = 1 then nI kn else if what = 2 then nI pn else if what = 3 then sp_sum wal wn else if what = 4 then lw else -1
def sp_plan (pla : Nat → Int32) (mi : Int32) : Nat → Bool
  | 0 => false
  | k + 1 => sp_plan pla mi k || decide (pla k = mi)
