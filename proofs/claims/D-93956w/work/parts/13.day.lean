/-! days: minute by minute, work by work -/
/-- whether it looks at the minute mi -/
abbrev sp_due (f d aim look mi : Int32) : Prop := aim - 5 * f ≤ sp_th d look mi
abbrev sp_would (as f d lw aim look mi : Int32) (once : Bool) (pn : Nat) (pla : Nat → Int32) : Prop := (sp_clock as ∧ once = false ∧ sp_due f d aim look mi ∧ ((¬ as = 3 ∧ ¬ as = 7) ∨ sp_by lw mi ≤ f)) ∨ (¬ (sp_clock as ∧ once = false ∧ sp_due f d aim look mi) ∧ as = 6 ∧ sp_plan pla mi pn = true)
/-- whether it goes at the minute -/
abbrev sp_goes (as f d aim look : Int32) (j : Nat) : Prop := j = 719 ∨ aim - sp_early as f ≤ sp_th d look (nI j)
/-- the minutes of one work: the last look, the minute at which it goes, what was paid, how many looks, the looks -/
def sp_ml (as f d lw aim : Int32) (pn : Nat) (pla : Nat → Int32) : Nat → Bool → Int32 → Nat → Int32 → Nat → (Nat → Int32) → Int32 × Nat × Int32 × Nat × (Nat → Int32)
  | 0, _, look, j, paid, n, lkd => (look, j, paid, n, lkd)
  | F + 1, once, look, j, paid, n, lkd =>
    if sp_would as f d lw aim look (nI j) once pn pla then
      if sp_goes as f d aim (nI j) j then (nI j, j, paid + sp_pays as (sp_by lw (nI j)), n + 1, upd lkd n (nI j))
      else sp_ml as f d lw aim pn pla F true (nI j) (j + 1) (paid + sp_pays as (sp_by lw (nI j))) (n + 1) (upd lkd n (nI j))
    else
      if sp_goes as f d aim look j then (look, j, paid, n, lkd)
      else sp_ml as f d lw aim pn pla F once look (j + 1) paid n lkd
/-- a day's state between works: when it is free, the last look, paid, looks, their minutes, late, pence, idle, when it came -/
abbrev DS : Type := Int32 × Int32 × Int32 × Nat × (Nat → Int32) × Int32 × Int32 × Int32 × (Nat → Int32)
abbrev dFr (x : DS) : Int32 := x.1
abbrev dLk (x : DS) : Int32 := x.2.1
abbrev dPd (x : DS) : Int32 := x.2.2.1
abbrev dN (x : DS) : Nat := x.2.2.2.1
abbrev dKd (x : DS) : Nat → Int32 := x.2.2.2.2.1
abbrev dLt (x : DS) : Int32 := x.2.2.2.2.2.1
abbrev dPn (x : DS) : Int32 := x.2.2.2.2.2.2.1
abbrev dId (x : DS) : Int32 := x.2.2.2.2.2.2.2.1
abbrev dCm (x : DS) : Nat → Int32 := x.2.2.2.2.2.2.2.2
/-- one work, gone to from the minute j -/
def sp_came (att wal fin : Nat → Int32) (w : Nat) (x : DS) (r : Int32 × Nat × Int32 × Nat × (Nat → Int32)) : DS :=
  (imin 719 (imax (nI r.2.1 + wal w) (att w)), r.1, r.2.2.1, r.2.2.2.1, r.2.2.2.2, dLt x + imax 0 (nI r.2.1 + wal w - att w), dPn x + imax 0 (nI r.2.1 + wal w - att w) * fin w, dId x + imax 0 (att w - (nI r.2.1 + wal w)), upd (upd (dCm x) w (-4)) w (nI r.2.1 + wal w))
def sp_step (as f d lw wk : Int32) (pn : Nat) (pla att wal fin : Nat → Int32) (w : Nat) (x : DS) : DS :=
  if wk ≤ att w then sp_came att wal fin w x (sp_ml as f d lw (att w - wal w) pn pla 720 false (dLk x) (dFr x).toNatClampNeg (dPd x) (dN x) (dKd x))
  else (dFr x, dLk x, dPd x, dN x, dKd x, dLt x, dPn x, dId x, upd (dCm x) w (-4))
def sp_dw (as f d lw wk : Int32) (pn : Nat) (pla att wal fin lkd cam : Nat → Int32) : Nat → DS
  | 0 => (wk, wk, 0, 0, lkd, 0, 0, 0, cam)
  | w + 1 => sp_step as f d lw wk pn pla att wal fin w (sp_dw as f d lw wk pn pla att wal fin lkd cam w)
/-- how many minutes of the plan lie before j -/
def sp_cnt (pla : Nat → Int32) (j : Nat) : Nat → Nat
  | 0 => 0
  | k + 1 => sp_cnt pla j k + (if pla k < nI j then 1 else 0)
theorem cnt_le (pla : Nat → Int32) (j : Nat) : ∀ k, sp_cnt pla j k ≤ k := by
  intro k
  induction k with
  | zero => exact Nat.le_refl 0
  | succ k ih => rw [sp_cnt]; split <;> omega
theorem cnt_mono {pla : Nat → Int32} {i j : Nat} (h : i ≤ j) (hj : j < 2 ^ 31) : ∀ k, sp_cnt pla i k ≤ sp_cnt pla j k := by
  intro k
  induction k with
  | zero => exact Nat.le_refl 0
  | succ k ih =>
    rw [sp_cnt, sp_cnt]
    by_cases q : pla k < nI i
    · have q2 : pla k < nI j := by
        rw [Int32.lt_iff_toInt_lt, nI_toInt (by omega)] at q ⊢
        omega
      rw [if_pos q, if_pos q2]; omega
    · rw [if_neg q]; split <;> omega
theorem cnt_plan {pla : Nat → Int32} {j : Nat} (hj : j + 1 < 2 ^ 31) : ∀ k, sp_plan pla (nI j) k = true → sp_cnt pla j k + 1 ≤ sp_cnt pla (j + 1) k := by
  intro k
  induction k with
  | zero => intro h; cases h
  | succ k ih =>
    intro h
    rw [sp_plan, Bool.or_eq_true, decide_eq_true_eq] at h
    rw [sp_cnt, sp_cnt]
    have hm := cnt_mono (pla := pla) (Nat.le_succ j) hj k
    by_cases q : pla k = nI j
    · rw [q, if_neg (nI_nlt (Nat.le_refl j) (by omega)), if_pos (nI_lt (Nat.lt_succ_self j) hj)]
      show sp_cnt pla j k + 0 + 1 ≤ sp_cnt pla (j + 1) k + 1
      have hm2 : sp_cnt pla j k ≤ sp_cnt pla (j + 1) k := hm
      omega
    · have h1 := ih (h.resolve_right q)
      by_cases q1 : pla k < nI j
      · have q2 : pla k < nI (j + 1) := by
          rw [Int32.lt_iff_toInt_lt, nI_toInt (by omega)] at q1 ⊢
          omega
        rw [if_pos q1, if_pos q2]; omega
      · rw [if_neg q1]; split <;> omega
/-- the looks are few: of a told one by the plan, of a clock by the works -/
def sp_few (as : Int32) (pla : Nat → Int32) (pn w : Nat) (once : Bool) (j n : Nat) : Prop := (as = 6 → n ≤ sp_cnt pla j pn + w) ∧ (¬ as = 6 → n ≤ w + (if once = true then 1 else 0))
theorem few_lt {as : Int32} {pla : Nat → Int32} {pn w : Nat} {once : Bool} {j n : Nat} (h : sp_few as pla pn w once j n) (hp : pn ≤ 8) (hw : w < 5) : n < 16 := by
  have h1 := cnt_le pla j pn
  by_cases q : as = 6
  · have := h.1 q; omega
  · have := h.2 q
    have h2 : (if once = true then 1 else 0) ≤ 1 := by split <;> omega
    omega
theorem few_look {as f d lw aim look : Int32} {pla : Nat → Int32} {pn w : Nat} {once : Bool} {j n : Nat} (h : sp_few as pla pn w once j n) (hj : j < 2 ^ 30) (hw : sp_would as f d lw aim look (nI j) once pn pla) : sp_few as pla pn w true (j + 1) (n + 1) := by
  refine ⟨fun q => ?_, fun q => ?_⟩
  · have hp : sp_plan pla (nI j) pn = true := by
      rcases hw with hw | hw
      · exact absurd hw.1 (by rw [q]; decide)
      · exact hw.2.2
    have h1 := cnt_plan (pla := pla) (j := j) (by omega) pn hp
    have h2 := h.1 q
    omega
  · have ho : once = false := by
      rcases hw with hw | hw
      · exact hw.2.1
      · exact absurd hw.2.1 q
    have h2 := h.2 q
    rw [ho] at h2
    simpa using h2
theorem few_next {as : Int32} {pla : Nat → Int32} {pn w : Nat} {once : Bool} {i j n : Nat} (h : sp_few as pla pn w once i n) (hij : i ≤ j) (hj : j < 2 ^ 31) : sp_few as pla pn w once j n :=
  ⟨fun q => Nat.le_trans (h.1 q) (Nat.add_le_add_right (cnt_mono hij hj pn) w), h.2⟩
theorem few_work {as : Int32} {pla : Nat → Int32} {pn w : Nat} {once : Bool} {i j n : Nat} (h : sp_few as pla pn w once i n) (hij : i ≤ j) (hj : j < 2 ^ 31) : sp_few as pla pn (w + 1) false j n :=
  ⟨fun q => by have := (few_next h hij hj).1 q; omega, fun q => by
    have := h.2 q
    have h2 : (if once = true then 1 else 0) ≤ 1 := by split <;> omega
    simp; omega⟩
/-- a look's minute and the goings: one more look at j, then it goes there or later -/
theorem few_goes {as f d lw aim look : Int32} {pla : Nat → Int32} {pn w : Nat} {once : Bool} {i j n : Nat} (h : sp_few as pla pn w once i n) (hij : i ≤ j) (hj : j < 2 ^ 30) (hw : sp_would as f d lw aim look (nI i) once pn pla) : sp_few as pla pn (w + 1) false j (n + 1) := by
  refine ⟨fun q => ?_, fun q => ?_⟩
  · have h2 := (few_next h hij (by omega)).1 q
    omega
  · have ho : once = false := by
      rcases hw with hw | hw
      · exact hw.2.1
      · exact absurd hw.2.1 q
    have h2 := h.2 q
    rw [ho] at h2
    simp at h2 ⊢
    omega
theorem imax_nI {a b : Nat} (ha : a < 2 ^ 31) (hb : b < 2 ^ 31) : imax (nI a) (nI b) = nI (max a b) := by
  unfold imax
  by_cases q : a < b
  · rw [if_pos (nI_lt q hb), Nat.max_eq_right (Nat.le_of_lt q)]
  · rw [if_neg (nI_nlt (by omega) ha), Nat.max_eq_left (by omega)]
theorem imin_nI {a b : Nat} (ha : a < 2 ^ 31) (hb : b < 2 ^ 31) : imin (nI a) (nI b) = nI (min a b) := by
  unfold imin
  by_cases q : b < a
  · rw [if_pos (nI_lt q ha), Nat.min_eq_right (Nat.le_of_lt q)]
  · rw [if_neg (nI_nlt (by omega) hb), Nat.min_eq_left (by omega)]
theorem im_free {j : Nat} {wa at0 : Int32} (hj : j ≤ 719) (hw : 0 ≤ wa ∧ wa ≤ 59) (ha : 0 ≤ at0 ∧ at0 ≤ 719) : ∃ i : Nat, j ≤ i ∧ i ≤ 719 ∧ imin 719 (imax (nI j + wa) at0) = nI i := by
  obtain ⟨w, hw2, rfl⟩ := ix_lit 60 (by decide) (by decide) hw
  obtain ⟨a, ha2, rfl⟩ := ix_lit 720 (by decide) (by decide) ha
  refine ⟨min 719 (max (j + w) a), by omega, by omega, ?_⟩
  rw [nI_add, imax_nI (by omega) (by omega), show (719 : Int32) = nI 719 from rfl, imin_nI (by omega) (by omega)]
/-- a day, from empty looks -/
def sp_day (as f d lw wk : Int32) (pn : Nat) (pla att wal fin : Nat → Int32) (wn : Nat) : DS := sp_dw as f d lw wk pn pla att wal fin (fun _ => 0) (fun _ => 0) wn
abbrev sp_cost (x : DS) : Int32 := dPd x + dPn x
/-- the best figure so far and its cost -/
def sp_bst (cost : Nat → Int32) : Nat → Nat × Int32
  | 0 => (0, cost 0)
  | f + 1 => if cost (f + 1) < (sp_bst cost f).2 then (f + 1, cost (f + 1)) else sp_bst cost f
def sp_best (d lw wk : Int32) (pn : Nat) (pla att wal fin : Nat → Int32) (wn : Nat) : Nat := (sp_bst (fun f => sp_cost (sp_day 2 (nI f) d lw wk pn pla att wal fin wn)) 9).1
/-- a day of a looker of any kind -/
def sp_any (kd f d lw wk : Int32) (pn : Nat) (pla att wal fin : Nat → Int32) (wn : Nat) : DS := if kd = 4 then sp_day 2 (nI (sp_best d lw wk pn pla att wal fin wn)) d lw wk pn pla att wal fin wn else sp_day kd f d lw wk pn pla att wal fin wn
/-! the looks and comings that were there before don't matter -/
theorem ag_upd {f g : Nat → Int32} {n : Nat} {x : Int32} (h : ∀ i, i < n → f i = g i) : ∀ i, i < n + 1 → upd f n x i = upd g n x i := by
  intro i hi
  unfold upd
  by_cases q : i = n
  · rw [if_pos q, if_pos q]
  · rw [if_neg q, if_neg q]; exact h i (by omega)
theorem ml_ag (as f d lw aim : Int32) (pn : Nat) (pla : Nat → Int32) : ∀ (F : Nat) (once : Bool) (look : Int32) (j : Nat) (paid : Int32) (n : Nat) (k1 k2 : Nat → Int32), (∀ i, i < n → k1 i = k2 i) →
    (sp_ml as f d lw aim pn pla F once look j paid n k1).1 = (sp_ml as f d lw aim pn pla F once look j paid n k2).1 ∧ (sp_ml as f d lw aim pn pla F once look j paid n k1).2.1 = (sp_ml as f d lw aim pn pla F once look j paid n k2).2.1 ∧ (sp_ml as f d lw aim pn pla F once look j paid n k1).2.2.1 = (sp_ml as f d lw aim pn pla F once look j paid n k2).2.2.1 ∧ (sp_ml as f d lw aim pn pla F once look j paid n k1).2.2.2.1 = (sp_ml as f d lw aim pn pla F once look j paid n k2).2.2.2.1 ∧ ∀ i, i < (sp_ml as f d lw aim pn pla F once look j paid n k1).2.2.2.1 → (sp_ml as f d lw aim pn pla F once look j paid n k1).2.2.2.2 i = (sp_ml as f d lw aim pn pla F once look j paid n k2).2.2.2.2 i := by
  intro F
  induction F with
  | zero => intro once look j paid n k1 k2 h; exact ⟨rfl, rfl, rfl, rfl, h⟩
  | succ F ih =>
    intro once look j paid n k1 k2 h
    rw [sp_ml, sp_ml]
    by_cases q : sp_would as f d lw aim look (nI j) once pn pla
    · rw [if_pos q, if_pos q]
      by_cases g : sp_goes as f d aim (nI j) j
      · rw [if_pos g, if_pos g]; exact ⟨rfl, rfl, rfl, rfl, ag_upd h⟩
      · rw [if_neg g, if_neg g]; exact ih _ _ _ _ _ _ _ (ag_upd h)
    · rw [if_neg q, if_neg q]
      by_cases g : sp_goes as f d aim look j
      · rw [if_pos g, if_pos g]; exact ⟨rfl, rfl, rfl, rfl, h⟩
      · rw [if_neg g, if_neg g]; exact ih _ _ _ _ _ _ _ h
/-- the same day but for what was there before -/
def dsAg (w : Nat) (x z : DS) : Prop := dFr x = dFr z ∧ dLk x = dLk z ∧ dPd x = dPd z ∧ dN x = dN z ∧ dLt x = dLt z ∧ dPn x = dPn z ∧ dId x = dId z ∧ (∀ i, i < dN x → dKd x i = dKd z i) ∧ ∀ i, i < w → dCm x i = dCm z i
theorem dw_ag (as f d lw wk : Int32) (pn : Nat) (pla att wal fin k1 c1 k2 c2 : Nat → Int32) : ∀ w, dsAg w (sp_dw as f d lw wk pn pla att wal fin k1 c1 w) (sp_dw as f d lw wk pn pla att wal fin k2 c2 w) := by
  intro w
  induction w with
  | zero => exact ⟨rfl, rfl, rfl, rfl, rfl, rfl, rfl, fun i h => absurd h (Nat.not_lt_zero i), fun i h => absurd h (Nat.not_lt_zero i)⟩
  | succ w ih =>
    rw [sp_dw, sp_dw]
    generalize sp_dw as f d lw wk pn pla att wal fin k1 c1 w = x at ih ⊢
    generalize sp_dw as f d lw wk pn pla att wal fin k2 c2 w = z at ih ⊢
    obtain ⟨a1, a2, a3, a4, a5, a6, a7, a8, a9⟩ := ih
    unfold sp_step
    by_cases q : wk ≤ att w
    · rw [if_pos q, if_pos q]
      have h := ml_ag as f d lw (att w - wal w) pn pla 720 false (dLk x) (dFr x).toNatClampNeg (dPd x) (dN x) (dKd x) (dKd z) a8
      rw [← a1, ← a2, ← a3, ← a4]
      obtain ⟨b1, b2, b3, b4, b5⟩ := h
      refine ⟨?_, ?_, ?_, ?_, ?_, ?_, ?_, b5, ?_⟩
      · show imin _ _ = imin _ _; rw [b2]
      · exact b1
      · exact b3
      · exact b4
      · show dLt x + _ = dLt z + _; rw [b2, a5]
      · show dPn x + _ = dPn z + _; rw [b2, a6]
      · show dId x + _ = dId z + _; rw [b2, a7]
      · show ∀ i, i < w + 1 → upd (upd (dCm x) w (-4)) w _ i = upd (upd (dCm z) w (-4)) w _ i
        intro i hi
        rw [b2]
        unfold upd
        by_cases e : i = w
        · rw [if_pos e, if_pos e]
        · simp only [if_neg e]; exact a9 i (by omega)
    · rw [if_neg q, if_neg q]
      exact ⟨a1, a2, a3, a4, a5, a6, a7, a8, ag_upd a9⟩
