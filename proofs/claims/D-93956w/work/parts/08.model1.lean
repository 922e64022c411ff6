theorem hdS_X5_isIn : yX5_isIn.cls ≠ "java/lang/invoke/MethodHandle" ∧ yX5_isIn.cls ≠ "java/lang/invoke/VarHandle" ∧ (parseMethodDescriptor yX5_isIn.desc).map (fun d => d.parameters.length) = some 3 := by decide +kernel
set_option maxHeartbeats 4000000 in
set_option maxRecDepth 100000 in
theorem met_X5_isIn {l : Launch} {dC : Nat → ClassId} {dI : Nat → Nat → Nat} {dA : Nat → ClassId} (v0 : Int32) (lo : Int32) (hi : Int32)  : Met l yX5_isIn (ws_ yX5_isIn cX5_isIn 3 (some .boolean)) ({ frames := 2, cells := 0, slots := 0, locals := 64 } : Room) (RoP dC dI dA [.int v0, .int lo, .int hi] []) (vp_Si (fun r => r = bI (lo ≤ v0 ∧ v0 ≤ hi))) 0 0 (fun _ => False) := by
  refine ofRo (cc := cX5_isIn) (maxL := 3) (ret := (some .boolean)) (by decide) rfl (fun w h => List.mem_cons_of_mem _ h) (Nat.le_of_ble_eq_true rfl) ?_
  intro p e s m below meth c ls hx hb hr hlocks hml hts hown hP hK hl
  have hown : s.vm.findClass RX5 = some m.cls := hown
  have hl : lv_has ls 3 [(0, .int v0), (1, .int lo), (2, .int hi)] := hl
  refine lv_iload_n hx hb dX5_isIn_0 rfl (lv_at hl 0 rfl) ?_
  refine lv_iload_n hx hb dX5_isIn_1 rfl (lv_at hl 1 rfl) ?_
  refine lv_icmp_lt (tgt := 14) hx hb dX5_isIn_2 (by decide) (fun c_2 => ?_) (fun c_2 => ?_)
  · skip
    refine lv_iconst (v := 0) hx hb dX5_isIn_14 (by decide) ?_
    refine rt_sz hx hb hr hlocks dX5_isIn_15 rfl ?_
    show _ = bI _; grind [bI]
  · skip
    refine lv_iload_n hx hb dX5_isIn_5 rfl (lv_at hl 0 rfl) ?_
    refine lv_iload_n hx hb dX5_isIn_6 rfl (lv_at hl 2 rfl) ?_
    refine lv_icmp_gt (tgt := 14) hx hb dX5_isIn_7 (by decide) (fun c_7 => ?_) (fun c_7 => ?_)
    · skip
      refine lv_iconst (v := 0) hx hb dX5_isIn_14 (by decide) ?_
      refine rt_sz hx hb hr hlocks dX5_isIn_15 rfl ?_
      show _ = bI _; grind [bI]
    · skip
      refine lv_iconst (v := 1) hx hb dX5_isIn_10 (by decide) ?_
      refine lv_goto (tgt := 15) hx hb dX5_isIn_11 (by decide) ?_
      refine rt_sz hx hb hr hlocks dX5_isIn_15 rfl ?_
      show _ = bI _; grind [bI]
theorem hdS_X5_isMinute : yX5_isMinute.cls ≠ "java/lang/invoke/MethodHandle" ∧ yX5_isMinute.cls ≠ "java/lang/invoke/VarHandle" ∧ (parseMethodDescriptor yX5_isMinute.desc).map (fun d => d.parameters.length) = some 1 := by decide +kernel
set_option maxHeartbeats 4000000 in
set_option maxRecDepth 100000 in
theorem met_X5_isMinute {l : Launch} {dC : Nat → ClassId} {dI : Nat → Nat → Nat} {dA : Nat → ClassId} (mi : Int32)  : Met l yX5_isMinute (ws_ yX5_isMinute cX5_isMinute 1 (some .boolean)) ({ frames := 3, cells := 0, slots := 0, locals := 128 } : Room) (RoP dC dI dA [.int mi] []) (vp_Si (fun r => r = bI (0 ≤ mi ∧ mi ≤ 719))) 0 0 (fun _ => False) := by
  refine ofRo (cc := cX5_isMinute) (maxL := 1) (ret := (some .boolean)) (by decide) rfl (fun w h => List.mem_cons_of_mem _ h) (Nat.le_of_ble_eq_true rfl) ?_
  intro p e s m below meth c ls hx hb hr hlocks hml hts hown hP hK hl
  have hown : s.vm.findClass RX5 = some m.cls := hown
  have hl : lv_has ls 1 [(0, .int mi)] := hl
  refine lv_iload_n hx hb dX5_isMinute_0 rfl (lv_at hl 0 rfl) ?_
  refine lv_iconst (v := 0) hx hb dX5_isMinute_1 (by decide) ?_
  refine lv_sipush (v := 719) hx hb dX5_isMinute_2 (by decide) ?_
  refine ro_S (rest := []) (As := [.int mi, .int 0, .int 719]) (wc := []) ⟨hx, hb, hml, hown, hts⟩ (met_X5_isIn mi 0 719) (va_cwS 3 hts (lw_S q1234 q1235 q46 q1236) rfl rfl rfl hdS_X5_isIn ⟨Nat.le_of_ble_eq_true rfl, Nat.le_of_ble_eq_true rfl⟩) hK hP [] rfl rfl hl.1 rfl (Nat.le_of_ble_eq_true rfl) dX5_isMinute_5 ⟨Nat.zero_le _, Nat.zero_le _⟩ (fun r_5 h_5 => ?_)
  obtain rfl : r_5 = bI (0 ≤ mi ∧ mi ≤ 719) := h_5
  refine rt_sz hx hb hr hlocks dX5_isMinute_8 (bI_narr rfl) ?_
  rfl
theorem hdS_X5_priceBy : yX5_priceBy.cls ≠ "java/lang/invoke/MethodHandle" ∧ yX5_priceBy.cls ≠ "java/lang/invoke/VarHandle" ∧ (parseMethodDescriptor yX5_priceBy.desc).map (fun d => d.parameters.length) = some 2 := by decide +kernel
set_option maxHeartbeats 4000000 in
set_option maxRecDepth 100000 in
theorem met_X5_priceBy {l : Launch} {dC : Nat → ClassId} {dI : Nat → Nat → Nat} {dA : Nat → ClassId} (law : Int32) (mi : Int32)  : Met l yX5_priceBy (ws_ yX5_priceBy cX5_priceBy 3 (some .int)) ({ frames := 2, cells := 0, slots := 0, locals := 64 } : Room) (RoP dC dI dA [.int law, .int mi] []) (vp_Si (fun r => r = sp_by law mi)) 0 0 (fun _ => False) := by
  refine ofRo (cc := cX5_priceBy) (maxL := 3) (ret := (some .int)) (by decide) rfl (fun w h => List.mem_cons_of_mem _ h) (Nat.le_of_ble_eq_true rfl) ?_
  intro p e s m below meth c ls hx hb hr hlocks hml hts hown hP hK hl
  have hown : s.vm.findClass RX5 = some m.cls := hown
  have hl : lv_has ls 3 [(0, .int law), (1, .int mi)] := hl
  refine lv_iload_n hx hb dX5_priceBy_0 rfl (lv_at hl 1 rfl) ?_
  refine lv_bipush (v := 60) hx hb dX5_priceBy_1 (by decide) ?_
  refine lv_idiv hx hb dX5_priceBy_3 (by decide) ?_
  refine lv_if_ne (tgt := 12) hx hb dX5_priceBy_4 (by decide) (fun c_4 => ?_) (fun c_4 => ?_)
  · skip
    refine lv_iload_n hx hb dX5_priceBy_12 rfl (lv_at hl 1 rfl) ?_
    refine lv_bipush (v := 60) hx hb dX5_priceBy_13 (by decide) ?_
    refine lv_idiv hx hb dX5_priceBy_15 (by decide) ?_
    refine lv_istore_n (lv' := [(2, .int (mi / 60)), (0, .int law), (1, .int mi)]) hx hb dX5_priceBy_16 rfl hl (by decide) rfl (fun ls hl => ?_)
    refine lv_iload_n hx hb dX5_priceBy_17 rfl (lv_at hl 1 rfl) ?_
    refine lv_if_ne (tgt := 25) hx hb dX5_priceBy_18 (by decide) (fun c_18 => ?_) (fun c_18 => ?_)
    · skip
      refine lv_iload_n hx hb dX5_priceBy_25 rfl (lv_at hl 1 rfl) ?_
      refine lv_iconst (v := 1) hx hb dX5_priceBy_26 (by decide) ?_
      refine lv_icmp_ne (tgt := 42) hx hb dX5_priceBy_27 (by decide) (fun c_27 => ?_) (fun c_27 => ?_)
      · skip
        refine lv_bipush (v := 6) hx hb dX5_priceBy_42 (by decide) ?_
        refine rt_si hx hb hr hlocks dX5_priceBy_44 ?_
        show _ = sp_by _ _; grind [sp_by, sp_hour]
      · skip
        refine lv_iload_n hx hb dX5_priceBy_30 rfl (lv_at hl 0 rfl) ?_
        refine lv_iload_n hx hb dX5_priceBy_31 rfl (lv_at hl 2 rfl) ?_
        refine lv_bipush (v := 60) hx hb dX5_priceBy_32 (by decide) ?_
        refine lv_irem hx hb dX5_priceBy_34 (by decide) ?_
        refine lv_bipush (v := 10) hx hb dX5_priceBy_35 (by decide) ?_
        refine lv_idiv hx hb dX5_priceBy_37 (by decide) ?_
        refine lv_iadd hx hb dX5_priceBy_38 ?_
        refine lv_goto (tgt := 44) hx hb dX5_priceBy_39 (by decide) ?_
        refine rt_si hx hb hr hlocks dX5_priceBy_44 ?_
        show _ = sp_by _ _; grind [sp_by, sp_hour]
    · skip
      refine lv_iload_n hx hb dX5_priceBy_21 rfl (lv_at hl 0 rfl) ?_
      refine lv_goto (tgt := 44) hx hb dX5_priceBy_22 (by decide) ?_
      refine rt_si hx hb hr hlocks dX5_priceBy_44 ?_
      show _ = sp_by _ _; grind [sp_by, sp_hour]
  · skip
    refine lv_bipush (v := 12) hx hb dX5_priceBy_7 (by decide) ?_
    refine lv_goto (tgt := 16) hx hb dX5_priceBy_9 (by decide) ?_
    refine lv_istore_n (lv' := [(2, .int 12), (0, .int law), (1, .int mi)]) hx hb dX5_priceBy_16 rfl hl (by decide) rfl (fun ls hl => ?_)
    refine lv_iload_n hx hb dX5_priceBy_17 rfl (lv_at hl 1 rfl) ?_
    refine lv_if_ne (tgt := 25) hx hb dX5_priceBy_18 (by decide) (fun c_18_2 => ?_) (fun c_18_2 => ?_)
    · skip
      refine lv_iload_n hx hb dX5_priceBy_25 rfl (lv_at hl 1 rfl) ?_
      refine lv_iconst (v := 1) hx hb dX5_priceBy_26 (by decide) ?_
      refine lv_icmp_ne (tgt := 42) hx hb dX5_priceBy_27 (by decide) (fun c_27_2 => ?_) (fun c_27_2 => ?_)
      · skip
        refine lv_bipush (v := 6) hx hb dX5_priceBy_42 (by decide) ?_
        refine rt_si hx hb hr hlocks dX5_priceBy_44 ?_
        show _ = sp_by _ _; grind [sp_by, sp_hour]
      · skip
        refine lv_iload_n hx hb dX5_priceBy_30 rfl (lv_at hl 0 rfl) ?_
        refine lv_iload_n hx hb dX5_priceBy_31 rfl (lv_at hl 2 rfl) ?_
        refine lv_bipush (v := 60) hx hb dX5_priceBy_32 (by decide) ?_
        refine lv_irem hx hb dX5_priceBy_34 (by decide) ?_
        refine lv_bipush (v := 10) hx hb dX5_priceBy_35 (by decide) ?_
        refine lv_idiv hx hb dX5_priceBy_37 (by decide) ?_
        refine lv_iadd hx hb dX5_priceBy_38 ?_
        refine lv_goto (tgt := 44) hx hb dX5_priceBy_39 (by decide) ?_
        refine rt_si hx hb hr hlocks dX5_priceBy_44 ?_
        show _ = sp_by _ _; grind [sp_by, sp_hour]
    · skip
      refine lv_iload_n hx hb dX5_priceBy_21 rfl (lv_at hl 0 rfl) ?_
      refine lv_goto (tgt := 44) hx hb dX5_priceBy_22 (by decide) ?_
      refine rt_si hx hb hr hlocks dX5_priceBy_44 ?_
      show _ = sp_by _ _; grind [sp_by, sp_hour]
theorem hdS_X5_thought : yX5_thought.cls ≠ "java/lang/invoke/MethodHandle" ∧ yX5_thought.cls ≠ "java/lang/invoke/VarHandle" ∧ (parseMethodDescriptor yX5_thought.desc).map (fun d => d.parameters.length) = some 3 := by decide +kernel
set_option maxHeartbeats 4000000 in
set_option maxRecDepth 100000 in
theorem met_X5_thought {l : Launch} {dC : Nat → ClassId} {dI : Nat → Nat → Nat} {dA : Nat → ClassId} (d : Int32) (lk : Int32) (mi : Int32)  : Met l yX5_thought (ws_ yX5_thought cX5_thought 3 (some .int)) ({ frames := 2, cells := 0, slots := 0, locals := 64 } : Room) (RoP dC dI dA [.int d, .int lk, .int mi] []) (vp_Si (fun r => r = sp_th d lk mi)) 0 0 (fun _ => False) := by
  refine ofRo (cc := cX5_thought) (maxL := 3) (ret := (some .int)) (by decide) rfl (fun w h => List.mem_cons_of_mem _ h) (Nat.le_of_ble_eq_true rfl) ?_
  intro p e s m below meth c ls hx hb hr hlocks hml hts hown hP hK hl
  have hown : s.vm.findClass RX5 = some m.cls := hown
  have hl : lv_has ls 3 [(0, .int d), (1, .int lk), (2, .int mi)] := hl
  refine lv_iload_n hx hb dX5_thought_0 rfl (lv_at hl 2 rfl) ?_
  refine lv_iload_n hx hb dX5_thought_1 rfl (lv_at hl 2 rfl) ?_
  refine lv_iload_n hx hb dX5_thought_2 rfl (lv_at hl 1 rfl) ?_
  refine lv_isub hx hb dX5_thought_3 ?_
  refine lv_iload_n hx hb dX5_thought_4 rfl (lv_at hl 0 rfl) ?_
  refine lv_imul hx hb dX5_thought_5 ?_
  refine lv_bipush (v := 60) hx hb dX5_thought_6 (by decide) ?_
  refine lv_idiv hx hb dX5_thought_8 (by decide) ?_
  refine lv_iadd hx hb dX5_thought_9 ?_
  refine rt_si hx hb hr hlocks dX5_thought_10 ?_
  rfl
theorem hdS_X5_early : yX5_early.cls ≠ "java/lang/invoke/MethodHandle" ∧ yX5_early.cls ≠ "java/lang/invoke/VarHandle" ∧ (parseMethodDescriptor yX5_early.desc).map (fun d => d.parameters.length) = some 2 := by decide +kernel
set_option maxHeartbeats 4000000 in
set_option maxRecDepth 100000 in
theorem met_X5_early {l : Launch} {dC : Nat → ClassId} {dI : Nat → Nat → Nat} {dA : Nat → ClassId} (kd : Int32) (f : Int32)  : Met l yX5_early (ws_ yX5_early cX5_early 2 (some .int)) ({ frames := 2, cells := 0, slots := 0, locals := 64 } : Room) (RoP dC dI dA [.int kd, .int f] []) (vp_Si (fun r => r = sp_early kd f)) 0 0 (fun _ => False) := by
  refine ofRo (cc := cX5_early) (maxL := 2) (ret := (some .int)) (by decide) rfl (fun w h => List.mem_cons_of_mem _ h) (Nat.le_of_ble_eq_true rfl) ?_
  intro p e s m below meth c ls hx hb hr hlocks hml hts hown hP hK hl
  have hown : s.vm.findClass RX5 = some m.cls := hown
  have hl : lv_has ls 2 [(0, .int kd), (1, .int f)] := hl
  refine lv_iload_n hx hb dX5_early_0 rfl (lv_at hl 0 rfl) ?_
  refine lv_iconst (v := 1) hx hb dX5_early_1 (by decide) ?_
  refine lv_icmp_ne (tgt := 11) hx hb dX5_early_2 (by decide) (fun c_2 => ?_) (fun c_2 => ?_)
  · skip
    refine lv_iload_n hx hb dX5_early_11 rfl (lv_at hl 0 rfl) ?_
    refine lv_bipush (v := 6) hx hb dX5_early_12 (by decide) ?_
    refine lv_icmp_ne (tgt := 21) hx hb dX5_early_14 (by decide) (fun c_14 => ?_) (fun c_14 => ?_)
    · skip
      refine lv_iconst (v := 0) hx hb dX5_early_21 (by decide) ?_
      refine rt_si hx hb hr hlocks dX5_early_22 ?_
      clear hl hP hK hts hown hml hr hb hx hlocks
      show _ = _
      grind [sp_early]
    · skip
      refine lv_iload_n hx hb dX5_early_17 rfl (lv_at hl 1 rfl) ?_
      refine lv_goto (tgt := 22) hx hb dX5_early_18 (by decide) ?_
      refine rt_si hx hb hr hlocks dX5_early_22 ?_
      clear hl hP hK hts hown hml hr hb hx hlocks
      show _ = _
      grind [sp_early]
  · skip
    refine lv_iconst (v := 2) hx hb dX5_early_5 (by decide) ?_
    refine lv_iload_n hx hb dX5_early_6 rfl (lv_at hl 1 rfl) ?_
    refine lv_imul hx hb dX5_early_7 ?_
    refine lv_goto (tgt := 22) hx hb dX5_early_8 (by decide) ?_
    refine rt_si hx hb hr hlocks dX5_early_22 ?_
    clear hl hP hK hts hown hml hr hb hx hlocks
    show _ = _
    grind [sp_early]
theorem hdS_X5_isClock : yX5_isClock.cls ≠ "java/lang/invoke/MethodHandle" ∧ yX5_isClock.cls ≠ "java/lang/invoke/VarHandle" ∧ (parseMethodDescriptor yX5_isClock.desc).map (fun d => d.parameters.length) = some 1 := by decide +kernel
set_option maxHeartbeats 4000000 in
set_option maxRecDepth 100000 in
theorem met_X5_isClock {l : Launch} {dC : Nat → ClassId} {dI : Nat → Nat → Nat} {dA : Nat → ClassId} (kd : Int32)  : Met l yX5_isClock (ws_ yX5_isClock cX5_isClock 1 (some .boolean)) ({ frames := 2, cells := 0, slots := 0, locals := 64 } : Room) (RoP dC dI dA [.int kd] []) (vp_Si (fun r => r = bI (sp_clock kd))) 0 0 (fun _ => False) := by
  refine ofRo (cc := cX5_isClock) (maxL := 1) (ret := (some .boolean)) (by decide) rfl (fun w h => List.mem_cons_of_mem _ h) (Nat.le_of_ble_eq_true rfl) ?_
  intro p e s m below meth c ls hx hb hr hlocks hml hts hown hP hK hl
  have hown : s.vm.findClass RX5 = some m.cls := hown
  have hl : lv_has ls 1 [(0, .int kd)] := hl
  refine lv_iload_n hx hb dX5_isClock_0 rfl (lv_at hl 0 rfl) ?_
  refine lv_iconst (v := 2) hx hb dX5_isClock_1 (by decide) ?_
  refine lv_icmp_eq (tgt := 21) hx hb dX5_isClock_2 (by decide) (fun c_2 => ?_) (fun c_2 => ?_)
  · skip
    refine lv_iconst (v := 1) hx hb dX5_isClock_21 (by decide) ?_
    refine lv_goto (tgt := 26) hx hb dX5_isClock_22 (by decide) ?_
    refine rt_sz hx hb hr hlocks dX5_isClock_26 rfl ?_
    show _ = bI _; grind [bI]
  · skip
    refine lv_iload_n hx hb dX5_isClock_5 rfl (lv_at hl 0 rfl) ?_
    refine lv_iconst (v := 3) hx hb dX5_isClock_6 (by decide) ?_
    refine lv_icmp_eq (tgt := 21) hx hb dX5_isClock_7 (by decide) (fun c_7 => ?_) (fun c_7 => ?_)
    · skip
      refine lv_iconst (v := 1) hx hb dX5_isClock_21 (by decide) ?_
      refine lv_goto (tgt := 26) hx hb dX5_isClock_22 (by decide) ?_
      refine rt_sz hx hb hr hlocks dX5_isClock_26 rfl ?_
      show _ = bI _; grind [bI]
    · skip
      refine lv_iload_n hx hb dX5_isClock_10 rfl (lv_at hl 0 rfl) ?_
      refine lv_iconst (v := 5) hx hb dX5_isClock_11 (by decide) ?_
      refine lv_icmp_eq (tgt := 21) hx hb dX5_isClock_12 (by decide) (fun c_12 => ?_) (fun c_12 => ?_)
      · skip
        refine lv_iconst (v := 1) hx hb dX5_isClock_21 (by decide) ?_
        refine lv_goto (tgt := 26) hx hb dX5_isClock_22 (by decide) ?_
        refine rt_sz hx hb hr hlocks dX5_isClock_26 rfl ?_
        show _ = bI _; grind [bI]
      · skip
        refine lv_iload_n hx hb dX5_isClock_15 rfl (lv_at hl 0 rfl) ?_
        refine lv_bipush (v := 7) hx hb dX5_isClock_16 (by decide) ?_
        refine lv_icmp_ne (tgt := 25) hx hb dX5_isClock_18 (by decide) (fun c_18 => ?_) (fun c_18 => ?_)
        · skip
          refine lv_iconst (v := 0) hx hb dX5_isClock_25 (by decide) ?_
          refine rt_sz hx hb hr hlocks dX5_isClock_26 rfl ?_
          show _ = bI _; grind [bI]
        · skip
          refine lv_iconst (v := 1) hx hb dX5_isClock_21 (by decide) ?_
          refine lv_goto (tgt := 26) hx hb dX5_isClock_22 (by decide) ?_
          refine rt_sz hx hb hr hlocks dX5_isClock_26 rfl ?_
          show _ = bI _; grind [bI]
theorem hdS_X5_pays : yX5_pays.cls ≠ "java/lang/invoke/MethodHandle" ∧ yX5_pays.cls ≠ "java/lang/invoke/VarHandle" ∧ (parseMethodDescriptor yX5_pays.desc).map (fun d => d.parameters.length) = some 2 := by decide +kernel
set_option maxHeartbeats 4000000 in
set_option maxRecDepth 100000 in
theorem met_X5_pays {l : Launch} {dC : Nat → ClassId} {dI : Nat → Nat → Nat} {dA : Nat → ClassId} (kd : Int32) (pr : Int32)  : Met l yX5_pays (ws_ yX5_pays cX5_pays 2 (some .int)) ({ frames := 2, cells := 0, slots := 0, locals := 64 } : Room) (RoP dC dI dA [.int kd, .int pr] []) (vp_Si (fun r => r = sp_pays kd pr)) 0 0 (fun _ => False) := by
  refine ofRo (cc := cX5_pays) (maxL := 2) (ret := (some .int)) (by decide) rfl (fun w h => List.mem_cons_of_mem _ h) (Nat.le_of_ble_eq_true rfl) ?_
  intro p e s m below meth c ls hx hb hr hlocks hml hts hown hP hK hl
  have hown : s.vm.findClass RX5 = some m.cls := hown
  have hl : lv_has ls 2 [(0, .int kd), (1, .int pr)] := hl
  refine lv_iload_n hx hb dX5_pays_0 rfl (lv_at hl 0 rfl) ?_
  refine lv_iconst (v := 5) hx hb dX5_pays_1 (by decide) ?_
  refine lv_icmp_ne (tgt := 13) hx hb dX5_pays_2 (by decide) (fun c_2 => ?_) (fun c_2 => ?_)
  · skip
    refine lv_iload_n hx hb dX5_pays_13 rfl (lv_at hl 0 rfl) ?_
    refine lv_bipush (v := 7) hx hb dX5_pays_14 (by decide) ?_
    refine lv_icmp_ne (tgt := 29) hx hb dX5_pays_16 (by decide) (fun c_16 => ?_) (fun c_16 => ?_)
    · skip
      refine lv_iload_n hx hb dX5_pays_29 rfl (lv_at hl 1 rfl) ?_
      refine rt_si hx hb hr hlocks dX5_pays_30 ?_
      clear hl hP hK hts hown hml hr hb hx hlocks
      show _ = _
      grind [sp_pays]
    · skip
      refine lv_iconst (v := 0) hx hb dX5_pays_19 (by decide) ?_
      refine lv_iload_n hx hb dX5_pays_20 rfl (lv_at hl 1 rfl) ?_
      refine lv_iconst (v := 2) hx hb dX5_pays_21 (by decide) ?_
      refine lv_isub hx hb dX5_pays_22 ?_
      refine va_mmax (rest := []) hx hb (hml.trans hl.1.symm) hown (hts _ q1301) (hts _ q626) (hts _ q61) (hts _ q627) (Nat.le_of_ble_eq_true rfl) (Nat.le_of_ble_eq_true rfl) (Nat.le_of_ble_eq_true rfl) (Nat.le_of_ble_eq_true rfl) dX5_pays_23 ?_
      refine lv_eqi (y := (imax 0 (pr - 2))) rfl ?_
      refine lv_goto (tgt := 30) hx hb dX5_pays_26 (by decide) ?_
      refine rt_si hx hb hr hlocks dX5_pays_30 ?_
      clear hl hP hK hts hown hml hr hb hx hlocks
      show _ = _
      grind [sp_pays]
  · skip
    refine lv_iload_n hx hb dX5_pays_5 rfl (lv_at hl 1 rfl) ?_
    refine lv_iconst (v := 1) hx hb dX5_pays_6 (by decide) ?_
    refine lv_iadd hx hb dX5_pays_7 ?_
    refine lv_iconst (v := 2) hx hb dX5_pays_8 (by decide) ?_
    refine lv_idiv hx hb dX5_pays_9 (by decide) ?_
    refine lv_goto (tgt := 30) hx hb dX5_pays_10 (by decide) ?_
    refine rt_si hx hb hr hlocks dX5_pays_30 ?_
    clear hl hP hK hts hown hml hr hb hx hlocks
    show _ = _
    grind [sp_pays]
theorem hdS_X5_shareOf : yX5_shareOf.cls ≠ "java/lang/invoke/MethodHandle" ∧ yX5_shareOf.cls ≠ "java/lang/invoke/VarHandle" ∧ (parseMethodDescriptor yX5_shareOf.desc).map (fun d => d.parameters.length) = some 2 := by decide +kernel
set_option maxHeartbeats 4000000 in
set_option maxRecDepth 100000 in
theorem met_X5_shareOf {l : Launch} {dC : Nat → ClassId} {dI : Nat → Nat → Nat} {dA : Nat → ClassId} (pr : Int32) (n : Int32) (hn : ¬ n = 0) : Met l yX5_shareOf (ws_ yX5_shareOf cX5_shareOf 2 (some .int)) ({ frames := 2, cells := 0, slots := 0, locals := 64 } : Room) (RoP dC dI dA [.int pr, .int n] []) (vp_Si (fun r => r = sp_share pr n)) 0 0 (fun _ => False) := by
  refine ofRo (cc := cX5_shareOf) (maxL := 2) (ret := (some .int)) (by decide) rfl (fun w h => List.mem_cons_of_mem _ h) (Nat.le_of_ble_eq_true rfl) ?_
  intro p e s m below meth c ls hx hb hr hlocks hml hts hown hP hK hl
  have hown : s.vm.findClass RX5 = some m.cls := hown
  have hl : lv_has ls 2 [(0, .int pr), (1, .int n)] := hl
  refine lv_iload_n hx hb dX5_shareOf_0 rfl (lv_at hl 0 rfl) ?_
  refine lv_iload_n hx hb dX5_shareOf_1 rfl (lv_at hl 1 rfl) ?_
  refine lv_iadd hx hb dX5_shareOf_2 ?_
  refine lv_iconst (v := 1) hx hb dX5_shareOf_3 (by decide) ?_
  refine lv_isub hx hb dX5_shareOf_4 ?_
  refine lv_iload_n hx hb dX5_shareOf_5 rfl (lv_at hl 1 rfl) ?_
  refine lv_idiv hx hb dX5_shareOf_6 hn ?_
  refine rt_si hx hb hr hlocks dX5_shareOf_7 ?_
  rfl
theorem hdS_X5_isWork : yX5_isWork.cls ≠ "java/lang/invoke/MethodHandle" ∧ yX5_isWork.cls ≠ "java/lang/invoke/VarHandle" ∧ (parseMethodDescriptor yX5_isWork.desc).map (fun d => d.parameters.length) = some 1 := by decide +kernel
theorem hdV_X5_isWork : yX5_isWork.cls = RX5 ∧ yX5_isWork.cls ≠ "java/lang/invoke/MethodHandle" ∧ yX5_isWork.cls ≠ "java/lang/invoke/VarHandle" ∧ (parseMethodDescriptor yX5_isWork.desc).map (fun d => d.parameters.length) = some 1 := ⟨rfl, hdS_X5_isWork⟩
set_option maxHeartbeats 4000000 in
set_option maxRecDepth 100000 in
theorem met_X5_isWork {l : Launch} {dC : Nat → ClassId} {dI : Nat → Nat → Nat} {dA : Nat → ClassId} (m0 : Nat) (a : Nat → Nat) (v : Nat → Int32) (wn : Nat) (kn : Nat) (pn : Nat) (lw : Int32) (w : Int32)  : Met l yX5_isWork (ws_ yX5_isWork cX5_isWork 2 (some .boolean)) ({ frames := 3, cells := 0, slots := 0, locals := 128 } : Room) (RoP dC dI dA [.ref m0, .int w] [(m0, .inr (4, moF a v)), ((a 0), .inl (dA 0, 4, .inl (mn4 wn kn pn lw)))]) (vp_Si (fun r => r = bI (0 ≤ w ∧ w ≤ nI wn - 1))) 0 0 (fun _ => False) := by
  refine ofRo (cc := cX5_isWork) (maxL := 2) (ret := (some .boolean)) (by decide) rfl (fun w h => List.mem_cons_of_mem _ h) (Nat.le_of_ble_eq_true rfl) ?_
  intro p e s m below meth c ls hx hb hr hlocks hml hts hown hP hK hl
  have hown : s.vm.findClass RX5 = some m.cls := hown
  have hl : lv_has ls 2 [(0, .ref m0), (1, .int w)] := hl
  refine lv_iload_n hx hb dX5_isWork_0 rfl (lv_at hl 1 rfl) ?_
  refine lv_iconst (v := 0) hx hb dX5_isWork_1 (by decide) ?_
  refine lv_aload_n hx hb dX5_isWork_2 rfl (lv_at hl 0 rfl) ?_
  refine va_get (D := (dC, dI)) (ci := 4) (v := .ref (a 0)) (C := RX5) (T := TX5) (N := 41) hx hb hts in_X5 hown hK.1 hP 0 rfl rfl 0 (by decide) (hts _ q1092) (fun _ h9 => h9) rfl dX5_isWork_3 ?_
  refine lv_iconst (v := 0) hx hb dX5_isWork_6 (by decide) ?_
  refine va_iald hx hb hK.1 hP 1 0 rfl rfl (vin (by decide)) dX5_isWork_7 ?_
  refine lv_eqi (y := (nI wn)) rfl ?_
  refine lv_iconst (v := 1) hx hb dX5_isWork_8 (by decide) ?_
  refine lv_isub hx hb dX5_isWork_9 ?_
  refine ro_S (rest := []) (As := [.int w, .int 0, .int ((nI wn) - 1)]) (wc := []) ⟨hx, hb, hml, hown, hts⟩ (met_X5_isIn w 0 ((nI wn) - 1)) (va_cwS 3 hts (lw_S q1234 q1235 q46 q1236) rfl rfl rfl hdS_X5_isIn ⟨Nat.le_of_ble_eq_true rfl, Nat.le_of_ble_eq_true rfl⟩) hK hP [] rfl rfl hl.1 rfl (Nat.le_of_ble_eq_true rfl) dX5_isWork_10 ⟨Nat.zero_le _, Nat.zero_le _⟩ (fun r_10 h_10 => ?_)
  obtain rfl : r_10 = bI (0 ≤ w ∧ w ≤ ((nI wn) - 1)) := h_10
  refine rt_sz hx hb hr hlocks dX5_isWork_13 (bI_narr rfl) ?_
  rfl
theorem hdS_X5_isLooker : yX5_isLooker.cls ≠ "java/lang/invoke/MethodHandle" ∧ yX5_isLooker.cls ≠ "java/lang/invoke/VarHandle" ∧ (parseMethodDescriptor yX5_isLooker.desc).map (fun d => d.parameters.length) = some 1 := by decide +kernel
theorem hdV_X5_isLooker : yX5_isLooker.cls = RX5 ∧ yX5_isLooker.cls ≠ "java/lang/invoke/MethodHandle" ∧ yX5_isLooker.cls ≠ "java/lang/invoke/VarHandle" ∧ (parseMethodDescriptor yX5_isLooker.desc).map (fun d => d.parameters.length) = some 1 := ⟨rfl, hdS_X5_isLooker⟩
set_option maxHeartbeats 4000000 in
set_option maxRecDepth 100000 in
theorem met_X5_isLooker {l : Launch} {dC : Nat → ClassId} {dI : Nat → Nat → Nat} {dA : Nat → ClassId} (m0 : Nat) (a : Nat → Nat) (v : Nat → Int32) (wn : Nat) (kn : Nat) (pn : Nat) (lw : Int32) (k : Int32)  : Met l yX5_isLooker (ws_ yX5_isLooker cX5_isLooker 2 (some .boolean)) ({ frames := 3, cells := 0, slots := 0, locals := 128 } : Room) (RoP dC dI dA [.ref m0, .int k] [(m0, .inr (4, moF a v)), ((a 0), .inl (dA 0, 4, .inl (mn4 wn kn pn lw)))]) (vp_Si (fun r => r = bI (0 ≤ k ∧ k ≤ nI kn - 1))) 0 0 (fun _ => False) := by
  refine ofRo (cc := cX5_isLooker) (maxL := 2) (ret := (some .boolean)) (by decide) rfl (fun w h => List.mem_cons_of_mem _ h) (Nat.le_of_ble_eq_true rfl) ?_
  intro p e s m below meth c ls hx hb hr hlocks hml hts hown hP hK hl
  have hown : s.vm.findClass RX5 = some m.cls := hown
  have hl : lv_has ls 2 [(0, .ref m0), (1, .int k)] := hl
  refine lv_iload_n hx hb dX5_isLooker_0 rfl (lv_at hl 1 rfl) ?_
  refine lv_iconst (v := 0) hx hb dX5_isLooker_1 (by decide) ?_
  refine lv_aload_n hx hb dX5_isLooker_2 rfl (lv_at hl 0 rfl) ?_
  refine va_get (D := (dC, dI)) (ci := 4) (v := .ref (a 0)) (C := RX5) (T := TX5) (N := 41) hx hb hts in_X5 hown hK.1 hP 0 rfl rfl 0 (by decide) (hts _ q1092) (fun _ h9 => h9) rfl dX5_isLooker_3 ?_
  refine lv_iconst (v := 1) hx hb dX5_isLooker_6 (by decide) ?_
  refine va_iald hx hb hK.1 hP 1 0 rfl rfl (vin (by decide)) dX5_isLooker_7 ?_
  refine lv_eqi (y := (nI kn)) rfl ?_
  refine lv_iconst (v := 1) hx hb dX5_isLooker_8 (by decide) ?_
  refine lv_isub hx hb dX5_isLooker_9 ?_
  refine ro_S (rest := []) (As := [.int k, .int 0, .int ((nI kn) - 1)]) (wc := []) ⟨hx, hb, hml, hown, hts⟩ (met_X5_isIn k 0 ((nI kn) - 1)) (va_cwS 3 hts (lw_S q1234 q1235 q46 q1236) rfl rfl rfl hdS_X5_isIn ⟨Nat.le_of_ble_eq_true rfl, Nat.le_of_ble_eq_true rfl⟩) hK hP [] rfl rfl hl.1 rfl (Nat.le_of_ble_eq_true rfl) dX5_isLooker_10 ⟨Nat.zero_le _, Nat.zero_le _⟩ (fun r_10 h_10 => ?_)
  obtain rfl : r_10 = bI (0 ≤ k ∧ k ≤ ((nI kn) - 1)) := h_10
  refine rt_sz hx hb hr hlocks dX5_isLooker_13 (bI_narr rfl) ?_
  rfl
theorem hdS_X5_price : yX5_price.cls ≠ "java/lang/invoke/MethodHandle" ∧ yX5_price.cls ≠ "java/lang/invoke/VarHandle" ∧ (parseMethodDescriptor yX5_price.desc).map (fun d => d.parameters.length) = some 1 := by decide +kernel
theorem hdV_X5_price : yX5_price.cls = RX5 ∧ yX5_price.cls ≠ "java/lang/invoke/MethodHandle" ∧ yX5_price.cls ≠ "java/lang/invoke/VarHandle" ∧ (parseMethodDescriptor yX5_price.desc).map (fun d => d.parameters.length) = some 1 := ⟨rfl, hdS_X5_price⟩
set_option maxHeartbeats 4000000 in
set_option maxRecDepth 100000 in
theorem met_X5_price {l : Launch} {dC : Nat → ClassId} {dI : Nat → Nat → Nat} {dA : Nat → ClassId} (m0 : Nat) (a : Nat → Nat) (v : Nat → Int32) (wn : Nat) (kn : Nat) (pn : Nat) (lw : Int32) (mi : Int32)  : Met l yX5_price (ws_ yX5_price cX5_price 2 (some .int)) ({ frames := 4, cells := 0, slots := 0, locals := 192 } : Room) (RoP dC dI dA [.ref m0, .int mi] [(m0, .inr (4, moF a v)), ((a 0), .inl (dA 0, 4, .inl (mn4 wn kn pn lw)))]) (vp_Si (fun r => r = sp_price lw mi)) 0 0 (fun _ => False) := by
  refine ofRo (cc := cX5_price) (maxL := 2) (ret := (some .int)) (by decide) rfl (fun w h => List.mem_cons_of_mem _ h) (Nat.le_of_ble_eq_true rfl) ?_
  intro p e s m below meth c ls hx hb hr hlocks hml hts hown hP hK hl
  have hown : s.vm.findClass RX5 = some m.cls := hown
  have hl : lv_has ls 2 [(0, .ref m0), (1, .int mi)] := hl
  refine lv_iload_n hx hb dX5_price_0 rfl (lv_at hl 1 rfl) ?_
  refine ro_S (rest := []) (As := [.int mi]) (wc := []) ⟨hx, hb, hml, hown, hts⟩ (met_X5_isMinute mi) (va_cwS 1 hts (lw_S q1231 q1232 q46 q1233) rfl rfl rfl hdS_X5_isMinute ⟨Nat.le_of_ble_eq_true rfl, Nat.le_of_ble_eq_true rfl⟩) hK hP [] rfl rfl hl.1 rfl (Nat.le_of_ble_eq_true rfl) dX5_price_1 ⟨Nat.zero_le _, Nat.zero_le _⟩ (fun r_1 h_1 => ?_)
  obtain rfl : r_1 = bI (0 ≤ mi ∧ mi ≤ 719) := h_1
  refine lv_if_eq (tgt := 20) hx hb dX5_price_4 (by decide) (fun c_4 => ?_) (fun c_4 => ?_)
  · skip
    have c_4 := bI_eq0 (P := 0 ≤ mi ∧ mi ≤ 719) rfl c_4
    refine lv_iconst (v := (-1)) hx hb dX5_price_20 (by decide) ?_
    refine rt_si hx hb hr hlocks dX5_price_21 ?_
    clear hl hP hK hts hown hml hr hb hx hlocks
    show _ = _
    grind [sp_price]
  · skip
    have c_4 := bI_ne0 (P := 0 ≤ mi ∧ mi ≤ 719) rfl c_4
    refine lv_aload_n hx hb dX5_price_7 rfl (lv_at hl 0 rfl) ?_
    refine va_get (D := (dC, dI)) (ci := 4) (v := .ref (a 0)) (C := RX5) (T := TX5) (N := 41) hx hb hts in_X5 hown hK.1 hP 0 rfl rfl 0 (by decide) (hts _ q1092) (fun _ h9 => h9) rfl dX5_price_8 ?_
    refine lv_iconst (v := 3) hx hb dX5_price_11 (by decide) ?_
    refine va_iald hx hb hK.1 hP 1 0 rfl rfl (vin (by decide)) dX5_price_12 ?_
    refine lv_eqi (y := lw) rfl ?_
    refine lv_iload_n hx hb dX5_price_13 rfl (lv_at hl 1 rfl) ?_
    refine ro_S (rest := []) (As := [.int lw, .int mi]) (wc := []) ⟨hx, hb, hml, hown, hts⟩ (met_X5_priceBy lw mi) (va_cwS 2 hts (lw_S q1237 q1238 q46 q1239) rfl rfl rfl hdS_X5_priceBy ⟨Nat.le_of_ble_eq_true rfl, Nat.le_of_ble_eq_true rfl⟩) hK hP [] rfl rfl hl.1 rfl (Nat.le_of_ble_eq_true rfl) dX5_price_14 ⟨Nat.zero_le _, Nat.zero_le _⟩ (fun r_14 h_14 => ?_)
    obtain rfl : r_14 = sp_by lw mi := h_14
    refine lv_goto (tgt := 21) hx hb dX5_price_17 (by decide) ?_
    refine rt_si hx hb hr hlocks dX5_price_21 ?_
    clear hl hP hK hts hown hml hr hb hx hlocks
    show _ = _
    grind [sp_price]
theorem hdS_X5_work : yX5_work.cls ≠ "java/lang/invoke/MethodHandle" ∧ yX5_work.cls ≠ "java/lang/invoke/VarHandle" ∧ (parseMethodDescriptor yX5_work.desc).map (fun d => d.parameters.length) = some 2 := by decide +kernel
theorem hdV_X5_work : yX5_work.cls = RX5 ∧ yX5_work.cls ≠ "java/lang/invoke/MethodHandle" ∧ yX5_work.cls ≠ "java/lang/invoke/VarHandle" ∧ (parseMethodDescriptor yX5_work.desc).map (fun d => d.parameters.length) = some 2 := ⟨rfl, hdS_X5_work⟩
set_option maxHeartbeats 4000000 in
set_option maxRecDepth 100000 in
theorem met_X5_work {l : Launch} {dC : Nat → ClassId} {dI : Nat → Nat → Nat} {dA : Nat → ClassId} (m0 : Nat) (a : Nat → Nat) (v : Nat → Int32) (wn : Nat) (kn : Nat) (pn : Nat) (lw : Int32) (att : Nat → Int32) (wal : Nat → Int32) (fin : Nat → Int32) (w : Int32) (what : Int32) (hw5 : wn ≤ 5) : Met l yX5_work (ws_ yX5_work cX5_work 3 (some .int)) ({ frames := 4, cells := 0, slots := 0, locals := 192 } : Room) (RoP dC dI dA [.ref m0, .int w, .int what] [(m0, .inr (4, moF a v)), ((a 0), .inl (dA 0, 4, .inl (mn4 wn kn pn lw))), ((a 1), .inl (dA 0, 5, .inl att)), ((a 2), .inl (dA 0, 5, .inl wal)), ((a 3), .inl (dA 0, 5, .inl fin))]) (vp_Si (fun r => r = sp_work wn att wal fin w what)) 0 0 (fun _ => False) := by
  refine ofRo (cc := cX5_work) (maxL := 3) (ret := (some .int)) (by decide) rfl (fun w h => List.mem_cons_of_mem _ h) (Nat.le_of_ble_eq_true rfl) ?_
  intro p e s m below meth c ls hx hb hr hlocks hml hts hown hP hK hl
  have hown : s.vm.findClass RX5 = some m.cls := hown
  have hl : lv_has ls 3 [(0, .ref m0), (1, .int w), (2, .int what)] := hl
  refine lv_aload_n hx hb dX5_work_0 rfl (lv_at hl 0 rfl) ?_
  refine lv_iload_n hx hb dX5_work_1 rfl (lv_at hl 1 rfl) ?_
  refine ro_V (rest := []) (As := [.int w]) (wc := [(m0, .inr (4, moF a v)), ((a 0), .inl (dA 0, 4, .inl (mn4 wn kn pn lw)))]) ⟨hx, hb, hml, hown, hts⟩ (met_X5_isWork m0 a v wn kn pn lw w) (cwV 1 hts (lw_V q1248 q1250 qs24 q46 q1251) rfl rfl rfl hdV_X5_isWork ⟨Nat.le_of_ble_eq_true rfl, Nat.le_of_ble_eq_true rfl⟩) hK hP [0, 1] rfl (va_recv hK.1 hP (ci := 4) (q0 := 0) rfl rfl) rfl hl.1 rfl (Nat.le_of_ble_eq_true rfl) dX5_work_2 ⟨Nat.zero_le _, Nat.zero_le _⟩ (fun r_2 h_2 => ?_)
  obtain rfl : r_2 = bI (0 ≤ w ∧ w ≤ nI wn - 1) := h_2
  refine lv_if_eq (tgt := 17) hx hb dX5_work_5 (by decide) (fun c_5 => ?_) (fun c_5 => ?_)
  · skip
    have c_5 := bI_eq0 (P := 0 ≤ w ∧ w ≤ nI wn - 1) rfl c_5
    refine lv_iconst (v := (-1)) hx hb dX5_work_17 (by decide) ?_
    refine rt_si hx hb hr hlocks dX5_work_18 ?_
    clear hl hP hK hts hown hml hr hb hx hlocks
    show _ = _
    grind [sp_work]
  · skip
    have c_5 := bI_ne0 (P := 0 ≤ w ∧ w ≤ nI wn - 1) rfl c_5
    refine lv_iload_n hx hb dX5_work_8 rfl (lv_at hl 2 rfl) ?_
    refine lv_iconst (v := 0) hx hb dX5_work_9 (by decide) ?_
    refine lv_iconst (v := 2) hx hb dX5_work_10 (by decide) ?_
    refine ro_S (rest := []) (As := [.int what, .int 0, .int 2]) (wc := []) ⟨hx, hb, hml, hown, hts⟩ (met_X5_isIn what 0 2) (va_cwS 3 hts (lw_S q1234 q1235 q46 q1236) rfl rfl rfl hdS_X5_isIn ⟨Nat.le_of_ble_eq_true rfl, Nat.le_of_ble_eq_true rfl⟩) hK hP [] rfl rfl hl.1 rfl (Nat.le_of_ble_eq_true rfl) dX5_work_11 ⟨Nat.zero_le _, Nat.zero_le _⟩ (fun r_11 h_11 => ?_)
    obtain rfl : r_11 = bI (0 ≤ what ∧ what ≤ 2) := h_11
    refine lv_if_ne (tgt := 19) hx hb dX5_work_14 (by decide) (fun c_14 => ?_) (fun c_14 => ?_)
    · skip
      have c_14 := bI_ne0 (P := 0 ≤ what ∧ what ≤ 2) rfl c_14
      refine lv_iload_n hx hb dX5_work_19 rfl (lv_at hl 2 rfl) ?_
      refine lv_if_ne (tgt := 32) hx hb dX5_work_20 (by decide) (fun c_20 => ?_) (fun c_20 => ?_)
      · skip
        refine lv_iload_n hx hb dX5_work_32 rfl (lv_at hl 2 rfl) ?_
        refine lv_iconst (v := 1) hx hb dX5_work_33 (by decide) ?_
        refine lv_icmp_ne (tgt := 46) hx hb dX5_work_34 (by decide) (fun c_34 => ?_) (fun c_34 => ?_)
        · skip
          refine lv_aload_n hx hb dX5_work_46 rfl (lv_at hl 0 rfl) ?_
          refine va_get (D := (dC, dI)) (ci := 4) (v := .ref (a 3)) (C := RX5) (T := TX5) (N := 41) hx hb hts in_X5 hown hK.1 hP 0 rfl rfl 3 (by decide) (hts _ q1095) (fun _ h9 => h9) rfl dX5_work_47 ?_
          refine lv_iload_n hx hb dX5_work_50 rfl (lv_at hl 1 rfl) ?_
          refine va_iald hx hb hK.1 hP 4 0 rfl rfl (in_nI (by omega) (by omega) c_5) dX5_work_51 ?_
          refine rt_si hx hb hr hlocks dX5_work_52 ?_
          clear hl hP hK hts hown hml hr hb hx hlocks
          show _ = _
          grind [sp_work]
        · skip
          refine lv_aload_n hx hb dX5_work_37 rfl (lv_at hl 0 rfl) ?_
          refine va_get (D := (dC, dI)) (ci := 4) (v := .ref (a 2)) (C := RX5) (T := TX5) (N := 41) hx hb hts in_X5 hown hK.1 hP 0 rfl rfl 2 (by decide) (hts _ q1094) (fun _ h9 => h9) rfl dX5_work_38 ?_
          refine lv_iload_n hx hb dX5_work_41 rfl (lv_at hl 1 rfl) ?_
          refine va_iald hx hb hK.1 hP 3 0 rfl rfl (in_nI (by omega) (by omega) c_5) dX5_work_42 ?_
          refine lv_goto (tgt := 52) hx hb dX5_work_43 (by decide) ?_
          refine rt_si hx hb hr hlocks dX5_work_52 ?_
          clear hl hP hK hts hown hml hr hb hx hlocks
          show _ = _
          grind [sp_work]
      · skip
        refine lv_aload_n hx hb dX5_work_23 rfl (lv_at hl 0 rfl) ?_
        refine va_get (D := (dC, dI)) (ci := 4) (v := .ref (a 1)) (C := RX5) (T := TX5) (N := 41) hx hb hts in_X5 hown hK.1 hP 0 rfl rfl 1 (by decide) (hts _ q1093) (fun _ h9 => h9) rfl dX5_work_24 ?_
        refine lv_iload_n hx hb dX5_work_27 rfl (lv_at hl 1 rfl) ?_
        refine va_iald hx hb hK.1 hP 2 0 rfl rfl (in_nI (by omega) (by omega) c_5) dX5_work_28 ?_
        refine lv_goto (tgt := 52) hx hb dX5_work_29 (by decide) ?_
        refine rt_si hx hb hr hlocks dX5_work_52 ?_
        clear hl hP hK hts hown hml hr hb hx hlocks
        show _ = _
        grind [sp_work]
    · skip
      have c_14 := bI_eq0 (P := 0 ≤ what ∧ what ≤ 2) rfl c_14
      refine lv_iconst (v := (-1)) hx hb dX5_work_17 (by decide) ?_
      refine rt_si hx hb hr hlocks dX5_work_18 ?_
      clear hl hP hK hts hown hml hr hb hx hlocks
      show _ = _
      grind [sp_work]
theorem hdS_X5_looker : yX5_looker.cls ≠ "java/lang/invoke/MethodHandle" ∧ yX5_looker.cls ≠ "java/lang/invoke/VarHandle" ∧ (parseMethodDescriptor yX5_looker.desc).map (fun d => d.parameters.length) = some 2 := by decide +kernel
theorem hdV_X5_looker : yX5_looker.cls = RX5 ∧ yX5_looker.cls ≠ "java/lang/invoke/MethodHandle" ∧ yX5_looker.cls ≠ "java/lang/invoke/VarHandle" ∧ (parseMethodDescriptor yX5_looker.desc).map (fun d => d.parameters.length) = some 2 := ⟨rfl, hdS_X5_looker⟩
set_option maxHeartbeats 4000000 in
set_option maxRecDepth 100000 in
theorem met_X5_looker {l : Launch} {dC : Nat → ClassId} {dI : Nat → Nat → Nat} {dA : Nat → ClassId} (m0 : Nat) (a : Nat → Nat) (v : Nat → Int32) (wn : Nat) (kn : Nat) (pn : Nat) (lw : Int32) (knd : Nat → Int32) (fig : Nat → Int32) (wak : Nat → Int32) (k : Int32) (what : Int32) (hk6 : kn ≤ 6) : Met l yX5_looker (ws_ yX5_looker cX5_looker 3 (some .int)) ({ frames := 4, cells := 0, slots := 0, locals := 192 } : Room) (RoP dC dI dA [.ref m0, .int k, .int what] [(m0, .inr (4, moF a v)), ((a 0), .inl (dA 0, 4, .inl (mn4 wn kn pn lw))), ((a 4), .inl (dA 0, 6, .inl knd)), ((a 5), .inl (dA 0, 6, .inl fig)), ((a 7), .inl (dA 0, 6, .inl wak))]) (vp_Si (fun r => r = sp_looker kn knd fig wak k what)) 0 0 (fun _ => False) := by
  refine ofRo (cc := cX5_looker) (maxL := 3) (ret := (some .int)) (by decide) rfl (fun w h => List.mem_cons_of_mem _ h) (Nat.le_of_ble_eq_true rfl) ?_
  intro p e s m below meth c ls hx hb hr hlocks hml hts hown hP hK hl
  have hown : s.vm.findClass RX5 = some m.cls := hown
  have hl : lv_has ls 3 [(0, .ref m0), (1, .int k), (2, .int what)] := hl
  refine lv_aload_n hx hb dX5_looker_0 rfl (lv_at hl 0 rfl) ?_
  refine lv_iload_n hx hb dX5_looker_1 rfl (lv_at hl 1 rfl) ?_
  refine ro_V (rest := []) (As := [.int k]) (wc := [(m0, .inr (4, moF a v)), ((a 0), .inl (dA 0, 4, .inl (mn4 wn kn pn lw)))]) ⟨hx, hb, hml, hown, hts⟩ (met_X5_isLooker m0 a v wn kn pn lw k) (cwV 1 hts (lw_V q1256 q1258 qs25 q46 q1259) rfl rfl rfl hdV_X5_isLooker ⟨Nat.le_of_ble_eq_true rfl, Nat.le_of_ble_eq_true rfl⟩) hK hP [0, 1] rfl (va_recv hK.1 hP (ci := 4) (q0 := 0) rfl rfl) rfl hl.1 rfl (Nat.le_of_ble_eq_true rfl) dX5_looker_2 ⟨Nat.zero_le _, Nat.zero_le _⟩ (fun r_2 h_2 => ?_)
  obtain rfl : r_2 = bI (0 ≤ k ∧ k ≤ nI kn - 1) := h_2
  refine lv_if_eq (tgt := 17) hx hb dX5_looker_5 (by decide) (fun c_5 => ?_) (fun c_5 => ?_)
  · skip
    have c_5 := bI_eq0 (P := 0 ≤ k ∧ k ≤ nI kn - 1) rfl c_5
    refine lv_iconst (v := (-1)) hx hb dX5_looker_17 (by decide) ?_
    refine rt_si hx hb hr hlocks dX5_looker_18 ?_
    clear hl hP hK hts hown hml hr hb hx hlocks
    show _ = _
    grind [sp_looker]
  · skip
    have c_5 := bI_ne0 (P := 0 ≤ k ∧ k ≤ nI kn - 1) rfl c_5
    refine lv_iload_n hx hb dX5_looker_8 rfl (lv_at hl 2 rfl) ?_
    refine lv_iconst (v := 0) hx hb dX5_looker_9 (by decide) ?_
    refine lv_iconst (v := 3) hx hb dX5_looker_10 (by decide) ?_
    refine ro_S (rest := []) (As := [.int what, .int 0, .int 3]) (wc := []) ⟨hx, hb, hml, hown, hts⟩ (met_X5_isIn what 0 3) (va_cwS 3 hts (lw_S q1234 q1235 q46 q1236) rfl rfl rfl hdS_X5_isIn ⟨Nat.le_of_ble_eq_true rfl, Nat.le_of_ble_eq_true rfl⟩) hK hP [] rfl rfl hl.1 rfl (Nat.le_of_ble_eq_true rfl) dX5_looker_11 ⟨Nat.zero_le _, Nat.zero_le _⟩ (fun r_11 h_11 => ?_)
    obtain rfl : r_11 = bI (0 ≤ what ∧ what ≤ 3) := h_11
    refine lv_if_ne (tgt := 19) hx hb dX5_looker_14 (by decide) (fun c_14 => ?_) (fun c_14 => ?_)
    · skip
      have c_14 := bI_ne0 (P := 0 ≤ what ∧ what ≤ 3) rfl c_14
      refine lv_iload_n hx hb dX5_looker_19 rfl (lv_at hl 2 rfl) ?_
      by_cases c_20_0 : what = 0
      · skip
        refine lv_tableIn (x := what) (off := 28) (tgt := 48) hx hb dX5_looker_20 (by rw [c_20_0]; decide) (by rw [c_20_0]; decide) (by rw [c_20_0]; rfl) (by decide) ?_
        refine lv_aload_n hx hb dX5_looker_48 rfl (lv_at hl 0 rfl) ?_
        refine va_get (D := (dC, dI)) (ci := 4) (v := .ref (a 4)) (C := RX5) (T := TX5) (N := 41) hx hb hts in_X5 hown hK.1 hP 0 rfl rfl 4 (by decide) (hts _ q1096) (fun _ h9 => h9) rfl dX5_looker_49 ?_
        refine lv_iload_n hx hb dX5_looker_52 rfl (lv_at hl 1 rfl) ?_
        refine va_iald hx hb hK.1 hP 2 0 rfl rfl (in_nI (by omega) (by omega) c_5) dX5_looker_53 ?_
        refine rt_si hx hb hr hlocks dX5_looker_54 ?_
        clear hl hP hK hts hown hml hr hb hx hlocks
        show _ = _
        grind [sp_looker]
      by_cases c_20_1 : what = 1
      · skip
        refine lv_tableIn (x := what) (off := 35) (tgt := 55) hx hb dX5_looker_20 (by rw [c_20_1]; decide) (by rw [c_20_1]; decide) (by rw [c_20_1]; rfl) (by decide) ?_
        refine lv_aload_n hx hb dX5_looker_55 rfl (lv_at hl 0 rfl) ?_
        refine va_get (D := (dC, dI)) (ci := 4) (v := .ref (a 5)) (C := RX5) (T := TX5) (N := 41) hx hb hts in_X5 hown hK.1 hP 0 rfl rfl 5 (by decide) (hts _ q1097) (fun _ h9 => h9) rfl dX5_looker_56 ?_
        refine lv_iload_n hx hb dX5_looker_59 rfl (lv_at hl 1 rfl) ?_
        refine va_iald hx hb hK.1 hP 3 0 rfl rfl (in_nI (by omega) (by omega) c_5) dX5_looker_60 ?_
        refine rt_si hx hb hr hlocks dX5_looker_61 ?_
        clear hl hP hK hts hown hml hr hb hx hlocks
        show _ = _
        grind [sp_looker]
      by_cases c_20_2 : what = 2
      · skip
        refine lv_tableIn (x := what) (off := 42) (tgt := 62) hx hb dX5_looker_20 (by rw [c_20_2]; decide) (by rw [c_20_2]; decide) (by rw [c_20_2]; rfl) (by decide) ?_
        refine lv_aload_n hx hb dX5_looker_62 rfl (lv_at hl 0 rfl) ?_
        refine va_get (D := (dC, dI)) (ci := 4) (v := .ref (a 7)) (C := RX5) (T := TX5) (N := 41) hx hb hts in_X5 hown hK.1 hP 0 rfl rfl 7 (by decide) (hts _ q1099) (fun _ h9 => h9) rfl dX5_looker_63 ?_
        refine lv_iload_n hx hb dX5_looker_66 rfl (lv_at hl 1 rfl) ?_
        refine va_iald hx hb hK.1 hP 4 0 rfl rfl (in_nI (by omega) (by omega) c_5) dX5_looker_67 ?_
        refine rt_si hx hb hr hlocks dX5_looker_68 ?_
        clear hl hP hK hts hown hml hr hb hx hlocks
        show _ = _
        grind [sp_looker]
      refine lv_tableOut (x := what) (tgt := 69) hx hb dX5_looker_20 (by rcases sw_out (x := what) (lo := 0) (n := 3) (by decide) (fun j hj => match j, hj with | 0, _ => c_20_0 | 1, _ => c_20_1 | 2, _ => c_20_2 | (k + 3), h => absurd h (by omega)) with h | h <;> omega) (by decide) ?_
      refine lv_aload_n hx hb dX5_looker_69 rfl (lv_at hl 0 rfl) ?_
      refine va_get (D := (dC, dI)) (ci := 4) (v := .ref (a 4)) (C := RX5) (T := TX5) (N := 41) hx hb hts in_X5 hown hK.1 hP 0 rfl rfl 4 (by decide) (hts _ q1096) (fun _ h9 => h9) rfl dX5_looker_70 ?_
      refine lv_iload_n hx hb dX5_looker_73 rfl (lv_at hl 1 rfl) ?_
      refine va_iald hx hb hK.1 hP 2 0 rfl rfl (in_nI (by omega) (by omega) c_5) dX5_looker_74 ?_
      refine lv_aload_n hx hb dX5_looker_75 rfl (lv_at hl 0 rfl) ?_
      refine va_get (D := (dC, dI)) (ci := 4) (v := .ref (a 5)) (C := RX5) (T := TX5) (N := 41) hx hb hts in_X5 hown hK.1 hP 0 rfl rfl 5 (by decide) (hts _ q1097) (fun _ h9 => h9) rfl dX5_looker_76 ?_
      refine lv_iload_n hx hb dX5_looker_79 rfl (lv_at hl 1 rfl) ?_
      refine va_iald hx hb hK.1 hP 3 0 rfl rfl (in_nI (by omega) (by omega) c_5) dX5_looker_80 ?_
      refine ro_S (rest := []) (As := [.int (knd k.toNatClampNeg), .int (fig k.toNatClampNeg)]) (wc := []) ⟨hx, hb, hml, hown, hts⟩ (met_X5_early (knd k.toNatClampNeg) (fig k.toNatClampNeg)) (va_cwS 2 hts (lw_S q1260 q1261 q46 q1262) rfl rfl rfl hdS_X5_early ⟨Nat.le_of_ble_eq_true rfl, Nat.le_of_ble_eq_true rfl⟩) hK hP [] rfl rfl hl.1 rfl (Nat.le_of_ble_eq_true rfl) dX5_looker_81 ⟨Nat.zero_le _, Nat.zero_le _⟩ (fun r_81 h_81 => ?_)
      obtain rfl : r_81 = sp_early (knd k.toNatClampNeg) (fig k.toNatClampNeg) := h_81
      refine rt_si hx hb hr hlocks dX5_looker_84 ?_
      clear hl hP hK hts hown hml hr hb hx hlocks
      show _ = _
      grind [sp_looker]
    · skip
      have c_14 := bI_eq0 (P := 0 ≤ what ∧ what ≤ 3) rfl c_14
      refine lv_iconst (v := (-1)) hx hb dX5_looker_17 (by decide) ?_
      refine rt_si hx hb hr hlocks dX5_looker_18 ?_
      clear hl hP hK hts hown hml hr hb hx hlocks
      show _ = _
      grind [sp_looker]
theorem hdS_X5_drift : yX5_drift.cls ≠ "java/lang/invoke/MethodHandle" ∧ yX5_drift.cls ≠ "java/lang/invoke/VarHandle" ∧ (parseMethodDescriptor yX5_drift.desc).map (fun d => d.parameters.length) = some 1 := by decide +kernel
theorem hdV_X5_drift : yX5_drift.cls = RX5 ∧ yX5_drift.cls ≠ "java/lang/invoke/MethodHandle" ∧ yX5_drift.cls ≠ "java/lang/invoke/VarHandle" ∧ (parseMethodDescriptor yX5_drift.desc).map (fun d => d.parameters.length) = some 1 := ⟨rfl, hdS_X5_drift⟩
set_option maxHeartbeats 4000000 in
set_option maxRecDepth 100000 in
theorem met_X5_drift {l : Launch} {dC : Nat → ClassId} {dI : Nat → Nat → Nat} {dA : Nat → ClassId} (m0 : Nat) (a : Nat → Nat) (v : Nat → Int32) (wn : Nat) (kn : Nat) (pn : Nat) (lw : Int32) (dri : Nat → Int32) (k : Int32) (hk6 : kn ≤ 6) : Met l yX5_drift (ws_ yX5_drift cX5_drift 2 (some .int)) ({ frames := 4, cells := 0, slots := 0, locals := 192 } : Room) (RoP dC dI dA [.ref m0, .int k] [(m0, .inr (4, moF a v)), ((a 0), .inl (dA 0, 4, .inl (mn4 wn kn pn lw))), ((a 6), .inl (dA 0, 6, .inl dri))]) (vp_Si (fun r => r = sp_drift kn dri k)) 0 0 (fun _ => False) := by
  refine ofRo (cc := cX5_drift) (maxL := 2) (ret := (some .int)) (by decide) rfl (fun w h => List.mem_cons_of_mem _ h) (Nat.le_of_ble_eq_true rfl) ?_
  intro p e s m below meth c ls hx hb hr hlocks hml hts hown hP hK hl
  have hown : s.vm.findClass RX5 = some m.cls := hown
  have hl : lv_has ls 2 [(0, .ref m0), (1, .int k)] := hl
  refine lv_aload_n hx hb dX5_drift_0 rfl (lv_at hl 0 rfl) ?_
  refine lv_iload_n hx hb dX5_drift_1 rfl (lv_at hl 1 rfl) ?_
  refine ro_V (rest := []) (As := [.int k]) (wc := [(m0, .inr (4, moF a v)), ((a 0), .inl (dA 0, 4, .inl (mn4 wn kn pn lw)))]) ⟨hx, hb, hml, hown, hts⟩ (met_X5_isLooker m0 a v wn kn pn lw k) (cwV 1 hts (lw_V q1256 q1258 qs25 q46 q1259) rfl rfl rfl hdV_X5_isLooker ⟨Nat.le_of_ble_eq_true rfl, Nat.le_of_ble_eq_true rfl⟩) hK hP [0, 1] rfl (va_recv hK.1 hP (ci := 4) (q0 := 0) rfl rfl) rfl hl.1 rfl (Nat.le_of_ble_eq_true rfl) dX5_drift_2 ⟨Nat.zero_le _, Nat.zero_le _⟩ (fun r_2 h_2 => ?_)
  obtain rfl : r_2 = bI (0 ≤ k ∧ k ≤ nI kn - 1) := h_2
  refine lv_if_eq (tgt := 17) hx hb dX5_drift_5 (by decide) (fun c_5 => ?_) (fun c_5 => ?_)
  · skip
    have c_5 := bI_eq0 (P := 0 ≤ k ∧ k ≤ nI kn - 1) rfl c_5
    refine lv_ldc (v := (-1000000001)) hx hb hown (hts _ q1267) dX5_drift_17 ?_
    refine rt_si hx hb hr hlocks dX5_drift_19 ?_
    clear hl hP hK hts hown hml hr hb hx hlocks
    show _ = _
    grind [sp_drift]
  · skip
    have c_5 := bI_ne0 (P := 0 ≤ k ∧ k ≤ nI kn - 1) rfl c_5
    refine lv_aload_n hx hb dX5_drift_8 rfl (lv_at hl 0 rfl) ?_
    refine va_get (D := (dC, dI)) (ci := 4) (v := .ref (a 6)) (C := RX5) (T := TX5) (N := 41) hx hb hts in_X5 hown hK.1 hP 0 rfl rfl 6 (by decide) (hts _ q1098) (fun _ h9 => h9) rfl dX5_drift_9 ?_
    refine lv_iload_n hx hb dX5_drift_12 rfl (lv_at hl 1 rfl) ?_
    refine va_iald hx hb hK.1 hP 2 0 rfl rfl (in_nI (by omega) (by omega) c_5) dX5_drift_13 ?_
    refine lv_goto (tgt := 19) hx hb dX5_drift_14 (by decide) ?_
    refine rt_si hx hb hr hlocks dX5_drift_19 ?_
    clear hl hP hK hts hown hml hr hb hx hlocks
    show _ = _
    grind [sp_drift]
theorem hdS_X5_thinks : yX5_thinks.cls ≠ "java/lang/invoke/MethodHandle" ∧ yX5_thinks.cls ≠ "java/lang/invoke/VarHandle" ∧ (parseMethodDescriptor yX5_thinks.desc).map (fun d => d.parameters.length) = some 3 := by decide +kernel
theorem hdV_X5_thinks : yX5_thinks.cls = RX5 ∧ yX5_thinks.cls ≠ "java/lang/invoke/MethodHandle" ∧ yX5_thinks.cls ≠ "java/lang/invoke/VarHandle" ∧ (parseMethodDescriptor yX5_thinks.desc).map (fun d => d.parameters.length) = some 3 := ⟨rfl, hdS_X5_thinks⟩
set_option maxHeartbeats 4000000 in
set_option maxRecDepth 100000 in
theorem met_X5_thinks {l : Launch} {dC : Nat → ClassId} {dI : Nat → Nat → Nat} {dA : Nat → ClassId} (m0 : Nat) (a : Nat → Nat) (v : Nat → Int32) (wn : Nat) (kn : Nat) (pn : Nat) (lw : Int32) (dri : Nat → Int32) (k : Int32) (lk : Int32) (mi : Int32) (hk6 : kn ≤ 6) : Met l yX5_thinks (ws_ yX5_thinks cX5_thinks 4 (some .int)) ({ frames := 4, cells := 0, slots := 0, locals := 192 } : Room) (RoP dC dI dA [.ref m0, .int k, .int lk, .int mi] [(m0, .inr (4, moF a v)), ((a 0), .inl (dA 0, 4, .inl (mn4 wn kn pn lw))), ((a 6), .inl (dA 0, 6, .inl dri))]) (vp_Si (fun r => r = sp_thinks kn dri k lk mi)) 0 0 (fun _ => False) := by
  refine ofRo (cc := cX5_thinks) (maxL := 4) (ret := (some .int)) (by decide) rfl (fun w h => List.mem_cons_of_mem _ h) (Nat.le_of_ble_eq_true rfl) ?_
  intro p e s m below meth c ls hx hb hr hlocks hml hts hown hP hK hl
  have hown : s.vm.findClass RX5 = some m.cls := hown
  have hl : lv_has ls 4 [(0, .ref m0), (1, .int k), (2, .int lk), (3, .int mi)] := hl
  refine lv_aload_n hx hb dX5_thinks_0 rfl (lv_at hl 0 rfl) ?_
  refine lv_iload_n hx hb dX5_thinks_1 rfl (lv_at hl 1 rfl) ?_
  refine ro_V (rest := []) (As := [.int k]) (wc := [(m0, .inr (4, moF a v)), ((a 0), .inl (dA 0, 4, .inl (mn4 wn kn pn lw)))]) ⟨hx, hb, hml, hown, hts⟩ (met_X5_isLooker m0 a v wn kn pn lw k) (cwV 1 hts (lw_V q1256 q1258 qs25 q46 q1259) rfl rfl rfl hdV_X5_isLooker ⟨Nat.le_of_ble_eq_true rfl, Nat.le_of_ble_eq_true rfl⟩) hK hP [0, 1] rfl (va_recv hK.1 hP (ci := 4) (q0 := 0) rfl rfl) rfl hl.1 rfl (Nat.le_of_ble_eq_true rfl) dX5_thinks_2 ⟨Nat.zero_le _, Nat.zero_le _⟩ (fun r_2 h_2 => ?_)
  obtain rfl : r_2 = bI (0 ≤ k ∧ k ≤ nI kn - 1) := h_2
  refine lv_if_eq (tgt := 41) hx hb dX5_thinks_5 (by decide) (fun c_5 => ?_) (fun c_5 => ?_)
  · skip
    have c_5 := bI_eq0 (P := 0 ≤ k ∧ k ≤ nI kn - 1) rfl c_5
    refine lv_ldc (v := (-1000000001)) hx hb hown (hts _ q1267) dX5_thinks_41 ?_
    refine rt_si hx hb hr hlocks dX5_thinks_43 ?_
    clear hl hP hK hts hown hml hr hb hx hlocks
    show _ = _
    grind [sp_thinks]
  · skip
    have c_5 := bI_ne0 (P := 0 ≤ k ∧ k ≤ nI kn - 1) rfl c_5
    refine lv_iload_n hx hb dX5_thinks_8 rfl (lv_at hl 2 rfl) ?_
    refine ro_S (rest := []) (As := [.int lk]) (wc := []) ⟨hx, hb, hml, hown, hts⟩ (met_X5_isMinute lk) (va_cwS 1 hts (lw_S q1231 q1232 q46 q1233) rfl rfl rfl hdS_X5_isMinute ⟨Nat.le_of_ble_eq_true rfl, Nat.le_of_ble_eq_true rfl⟩) hK hP [] rfl rfl hl.1 rfl (Nat.le_of_ble_eq_true rfl) dX5_thinks_9 ⟨Nat.zero_le _, Nat.zero_le _⟩ (fun r_9 h_9 => ?_)
    obtain rfl : r_9 = bI (0 ≤ lk ∧ lk ≤ 719) := h_9
    refine lv_if_eq (tgt := 41) hx hb dX5_thinks_12 (by decide) (fun c_12 => ?_) (fun c_12 => ?_)
    · skip
      have c_12 := bI_eq0 (P := 0 ≤ lk ∧ lk ≤ 719) rfl c_12
      refine lv_ldc (v := (-1000000001)) hx hb hown (hts _ q1267) dX5_thinks_41 ?_
      refine rt_si hx hb hr hlocks dX5_thinks_43 ?_
      clear hl hP hK hts hown hml hr hb hx hlocks
      show _ = _
      grind [sp_thinks]
    · skip
      have c_12 := bI_ne0 (P := 0 ≤ lk ∧ lk ≤ 719) rfl c_12
      refine lv_iload_n hx hb dX5_thinks_15 rfl (lv_at hl 3 rfl) ?_
      refine ro_S (rest := []) (As := [.int mi]) (wc := []) ⟨hx, hb, hml, hown, hts⟩ (met_X5_isMinute mi) (va_cwS 1 hts (lw_S q1231 q1232 q46 q1233) rfl rfl rfl hdS_X5_isMinute ⟨Nat.le_of_ble_eq_true rfl, Nat.le_of_ble_eq_true rfl⟩) hK hP [] rfl rfl hl.1 rfl (Nat.le_of_ble_eq_true rfl) dX5_thinks_16 ⟨Nat.zero_le _, Nat.zero_le _⟩ (fun r_16 h_16 => ?_)
      obtain rfl : r_16 = bI (0 ≤ mi ∧ mi ≤ 719) := h_16
      refine lv_if_eq (tgt := 41) hx hb dX5_thinks_19 (by decide) (fun c_19 => ?_) (fun c_19 => ?_)
      · skip
        have c_19 := bI_eq0 (P := 0 ≤ mi ∧ mi ≤ 719) rfl c_19
        refine lv_ldc (v := (-1000000001)) hx hb hown (hts _ q1267) dX5_thinks_41 ?_
        refine rt_si hx hb hr hlocks dX5_thinks_43 ?_
        clear hl hP hK hts hown hml hr hb hx hlocks
        show _ = _
        grind [sp_thinks]
      · skip
        have c_19 := bI_ne0 (P := 0 ≤ mi ∧ mi ≤ 719) rfl c_19
        refine lv_iload_n hx hb dX5_thinks_22 rfl (lv_at hl 2 rfl) ?_
        refine lv_iload_n hx hb dX5_thinks_23 rfl (lv_at hl 3 rfl) ?_
        refine lv_icmp_gt (tgt := 41) hx hb dX5_thinks_24 (by decide) (fun c_24 => ?_) (fun c_24 => ?_)
        · skip
          refine lv_ldc (v := (-1000000001)) hx hb hown (hts _ q1267) dX5_thinks_41 ?_
          refine rt_si hx hb hr hlocks dX5_thinks_43 ?_
          clear hl hP hK hts hown hml hr hb hx hlocks
          show _ = _
          grind [sp_thinks]
        · skip
          refine lv_aload_n hx hb dX5_thinks_27 rfl (lv_at hl 0 rfl) ?_
          refine va_get (D := (dC, dI)) (ci := 4) (v := .ref (a 6)) (C := RX5) (T := TX5) (N := 41) hx hb hts in_X5 hown hK.1 hP 0 rfl rfl 6 (by decide) (hts _ q1098) (fun _ h9 => h9) rfl dX5_thinks_28 ?_
          refine lv_iload_n hx hb dX5_thinks_31 rfl (lv_at hl 1 rfl) ?_
          refine va_iald hx hb hK.1 hP 2 0 rfl rfl (in_nI (by omega) (by omega) c_5) dX5_thinks_32 ?_
          refine lv_iload_n hx hb dX5_thinks_33 rfl (lv_at hl 2 rfl) ?_
          refine lv_iload_n hx hb dX5_thinks_34 rfl (lv_at hl 3 rfl) ?_
          refine ro_S (rest := []) (As := [.int (dri k.toNatClampNeg), .int lk, .int mi]) (wc := []) ⟨hx, hb, hml, hown, hts⟩ (met_X5_thought (dri k.toNatClampNeg) lk mi) (va_cwS 3 hts (lw_S q1272 q1273 q46 q1274) rfl rfl rfl hdS_X5_thought ⟨Nat.le_of_ble_eq_true rfl, Nat.le_of_ble_eq_true rfl⟩) hK hP [] rfl rfl hl.1 rfl (Nat.le_of_ble_eq_true rfl) dX5_thinks_35 ⟨Nat.zero_le _, Nat.zero_le _⟩ (fun r_35 h_35 => ?_)
          obtain rfl : r_35 = sp_th (dri k.toNatClampNeg) lk mi := h_35
          refine lv_goto (tgt := 43) hx hb dX5_thinks_38 (by decide) ?_
          refine rt_si hx hb hr hlocks dX5_thinks_43 ?_
          clear hl hP hK hts hown hml hr hb hx hlocks
          show _ = _
          grind [sp_thinks]
theorem hdS_X5_shared : yX5_shared.cls ≠ "java/lang/invoke/MethodHandle" ∧ yX5_shared.cls ≠ "java/lang/invoke/VarHandle" ∧ (parseMethodDescriptor yX5_shared.desc).map (fun d => d.parameters.length) = some 2 := by decide +kernel
theorem hdV_X5_shared : yX5_shared.cls = RX5 ∧ yX5_shared.cls ≠ "java/lang/invoke/MethodHandle" ∧ yX5_shared.cls ≠ "java/lang/invoke/VarHandle" ∧ (parseMethodDescriptor yX5_shared.desc).map (fun d => d.parameters.length) = some 2 := ⟨rfl, hdS_X5_shared⟩
set_option maxHeartbeats 4000000 in
set_option maxRecDepth 100000 in
theorem met_X5_shared {l : Launch} {dC : Nat → ClassId} {dI : Nat → Nat → Nat} {dA : Nat → ClassId} (m0 : Nat) (a : Nat → Nat) (v : Nat → Int32) (wn : Nat) (kn : Nat) (pn : Nat) (lw : Int32) (mi : Int32) (n : Int32)  : Met l yX5_shared (ws_ yX5_shared cX5_shared 3 (some .int)) ({ frames := 4, cells := 0, slots := 0, locals := 192 } : Room) (RoP dC dI dA [.ref m0, .int mi, .int n] [(m0, .inr (4, moF a v)), ((a 0), .inl (dA 0, 4, .inl (mn4 wn kn pn lw)))]) (vp_Si (fun r => r = sp_shared lw mi n)) 0 0 (fun _ => False) := by
  refine ofRo (cc := cX5_shared) (maxL := 3) (ret := (some .int)) (by decide) rfl (fun w h => List.mem_cons_of_mem _ h) (Nat.le_of_ble_eq_true rfl) ?_
  intro p e s m below meth c ls hx hb hr hlocks hml hts hown hP hK hl
  have hown : s.vm.findClass RX5 = some m.cls := hown
  have hl : lv_has ls 3 [(0, .ref m0), (1, .int mi), (2, .int n)] := hl
  refine lv_iload_n hx hb dX5_shared_0 rfl (lv_at hl 1 rfl) ?_
  refine ro_S (rest := []) (As := [.int mi]) (wc := []) ⟨hx, hb, hml, hown, hts⟩ (met_X5_isMinute mi) (va_cwS 1 hts (lw_S q1231 q1232 q46 q1233) rfl rfl rfl hdS_X5_isMinute ⟨Nat.le_of_ble_eq_true rfl, Nat.le_of_ble_eq_true rfl⟩) hK hP [] rfl rfl hl.1 rfl (Nat.le_of_ble_eq_true rfl) dX5_shared_1 ⟨Nat.zero_le _, Nat.zero_le _⟩ (fun r_1 h_1 => ?_)
  obtain rfl : r_1 = bI (0 ≤ mi ∧ mi ≤ 719) := h_1
  refine lv_if_eq (tgt := 34) hx hb dX5_shared_4 (by decide) (fun c_4 => ?_) (fun c_4 => ?_)
  · skip
    have c_4 := bI_eq0 (P := 0 ≤ mi ∧ mi ≤ 719) rfl c_4
    refine lv_iconst (v := (-1)) hx hb dX5_shared_34 (by decide) ?_
    refine rt_si hx hb hr hlocks dX5_shared_35 ?_
    clear hl hP hK hts hown hml hr hb hx hlocks
    show _ = _
    grind [sp_shared]
  · skip
    have c_4 := bI_ne0 (P := 0 ≤ mi ∧ mi ≤ 719) rfl c_4
    refine lv_iload_n hx hb dX5_shared_7 rfl (lv_at hl 2 rfl) ?_
    refine lv_iconst (v := 1) hx hb dX5_shared_8 (by decide) ?_
    refine lv_bipush (v := 9) hx hb dX5_shared_9 (by decide) ?_
    refine ro_S (rest := []) (As := [.int n, .int 1, .int 9]) (wc := []) ⟨hx, hb, hml, hown, hts⟩ (met_X5_isIn n 1 9) (va_cwS 3 hts (lw_S q1234 q1235 q46 q1236) rfl rfl rfl hdS_X5_isIn ⟨Nat.le_of_ble_eq_true rfl, Nat.le_of_ble_eq_true rfl⟩) hK hP [] rfl rfl hl.1 rfl (Nat.le_of_ble_eq_true rfl) dX5_shared_11 ⟨Nat.zero_le _, Nat.zero_le _⟩ (fun r_11 h_11 => ?_)
    obtain rfl : r_11 = bI (1 ≤ n ∧ n ≤ 9) := h_11
    refine lv_if_eq (tgt := 34) hx hb dX5_shared_14 (by decide) (fun c_14 => ?_) (fun c_14 => ?_)
    · skip
      have c_14 := bI_eq0 (P := 1 ≤ n ∧ n ≤ 9) rfl c_14
      refine lv_iconst (v := (-1)) hx hb dX5_shared_34 (by decide) ?_
      refine rt_si hx hb hr hlocks dX5_shared_35 ?_
      clear hl hP hK hts hown hml hr hb hx hlocks
      show _ = _
      grind [sp_shared]
    · skip
      have c_14 := bI_ne0 (P := 1 ≤ n ∧ n ≤ 9) rfl c_14
      refine lv_aload_n hx hb dX5_shared_17 rfl (lv_at hl 0 rfl) ?_
      refine va_get (D := (dC, dI)) (ci := 4) (v := .ref (a 0)) (C := RX5) (T := TX5) (N := 41) hx hb hts in_X5 hown hK.1 hP 0 rfl rfl 0 (by decide) (hts _ q1092) (fun _ h9 => h9) rfl dX5_shared_18 ?_
      refine lv_iconst (v := 3) hx hb dX5_shared_21 (by decide) ?_
      refine va_iald hx hb hK.1 hP 1 0 rfl rfl (vin (by decide)) dX5_shared_22 ?_
      refine lv_eqi (y := lw) rfl ?_
      refine lv_iload_n hx hb dX5_shared_23 rfl (lv_at hl 1 rfl) ?_
      refine ro_S (rest := []) (As := [.int lw, .int mi]) (wc := []) ⟨hx, hb, hml, hown, hts⟩ (met_X5_priceBy lw mi) (va_cwS 2 hts (lw_S q1237 q1238 q46 q1239) rfl rfl rfl hdS_X5_priceBy ⟨Nat.le_of_ble_eq_true rfl, Nat.le_of_ble_eq_true rfl⟩) hK hP [] rfl rfl hl.1 rfl (Nat.le_of_ble_eq_true rfl) dX5_shared_24 ⟨Nat.zero_le _, Nat.zero_le _⟩ (fun r_24 h_24 => ?_)
      obtain rfl : r_24 = sp_by lw mi := h_24
      refine lv_iload_n hx hb dX5_shared_27 rfl (lv_at hl 2 rfl) ?_
      refine ro_S (rest := []) (As := [.int (sp_by lw mi), .int n]) (wc := []) ⟨hx, hb, hml, hown, hts⟩ (met_X5_shareOf (sp_by lw mi) n (fun h9 => by rw [h9] at c_14; exact absurd c_14.1 (by decide))) (va_cwS 2 hts (lw_S q1343 q1344 q46 q1345) rfl rfl rfl hdS_X5_shareOf ⟨Nat.le_of_ble_eq_true rfl, Nat.le_of_ble_eq_true rfl⟩) hK hP [] rfl rfl hl.1 rfl (Nat.le_of_ble_eq_true rfl) dX5_shared_28 ⟨Nat.zero_le _, Nat.zero_le _⟩ (fun r_28 h_28 => ?_)
      obtain rfl : r_28 = sp_share (sp_by lw mi) n := h_28
      refine lv_goto (tgt := 35) hx hb dX5_shared_31 (by decide) ?_
      refine rt_si hx hb hr hlocks dX5_shared_35 ?_
      clear hl hP hK hts hown hml hr hb hx hlocks
      show _ = _
      grind [sp_shared]
theorem hdS_X5_isSold : yX5_isSold.cls ≠ "java/lang/invoke/MethodHandle" ∧ yX5_isSold.cls ≠ "java/lang/invoke/VarHandle" ∧ (parseMethodDescriptor yX5_isSold.desc).map (fun d => d.parameters.length) = some 4 := by decide +kernel
theorem hdV_X5_isSold : yX5_isSold.cls = RX5 ∧ yX5_isSold.cls ≠ "java/lang/invoke/MethodHandle" ∧ yX5_isSold.cls ≠ "java/lang/invoke/VarHandle" ∧ (parseMethodDescriptor yX5_isSold.desc).map (fun d => d.parameters.length) = some 4 := ⟨rfl, hdS_X5_isSold⟩
set_option maxHeartbeats 4000000 in
set_option maxRecDepth 100000 in
theorem met_X5_isSold {l : Launch} {dC : Nat → ClassId} {dI : Nat → Nat → Nat} {dA : Nat → ClassId} (m0 : Nat) (a : Nat → Nat) (v : Nat → Int32) (wn : Nat) (kn : Nat) (pn : Nat) (lw : Int32) (mi : Int32) (w : Int32) (a0 : Int32) (c0 : Int32)  : Met l yX5_isSold (ws_ yX5_isSold cX5_isSold 5 (some .boolean)) ({ frames := 3, cells := 0, slots := 0, locals := 128 } : Room) (RoP dC dI dA [.ref m0, .int mi, .int w, .int a0, .int c0] [(m0, .inr (4, moF a v)), ((a 0), .inl (dA 0, 4, .inl (mn4 wn kn pn lw)))]) (vp_Si (fun r => r = bI (a0 + w * c0 < sp_by lw mi))) 0 0 (fun _ => False) := by
  refine ofRo (cc := cX5_isSold) (maxL := 5) (ret := (some .boolean)) (by decide) rfl (fun w h => List.mem_cons_of_mem _ h) (Nat.le_of_ble_eq_true rfl) ?_
  intro p e s m below meth c ls hx hb hr hlocks hml hts hown hP hK hl
  have hown : s.vm.findClass RX5 = some m.cls := hown
  have hl : lv_has ls 5 [(0, .ref m0), (1, .int mi), (2, .int w), (3, .int a0), (4, .int c0)] := hl
  refine lv_iload_n hx hb dX5_isSold_0 rfl (lv_at hl 3 rfl) ?_
  refine lv_iload_n hx hb dX5_isSold_1 rfl (lv_at hl 2 rfl) ?_
  refine lv_iload hx hb dX5_isSold_2 (lv_at hl 4 rfl) ?_
  refine lv_imul hx hb dX5_isSold_4 ?_
  refine lv_iadd hx hb dX5_isSold_5 ?_
  refine lv_aload_n hx hb dX5_isSold_6 rfl (lv_at hl 0 rfl) ?_
  refine va_get (D := (dC, dI)) (ci := 4) (v := .ref (a 0)) (C := RX5) (T := TX5) (N := 41) hx hb hts in_X5 hown hK.1 hP 0 rfl rfl 0 (by decide) (hts _ q1092) (fun _ h9 => h9) rfl dX5_isSold_7 ?_
  refine lv_iconst (v := 3) hx hb dX5_isSold_10 (by decide) ?_
  refine va_iald hx hb hK.1 hP 1 0 rfl rfl (vin (by decide)) dX5_isSold_11 ?_
  refine lv_eqi (y := lw) rfl ?_
  refine lv_iload_n hx hb dX5_isSold_12 rfl (lv_at hl 1 rfl) ?_
  refine ro_S (rest := [.int (a0 + (w * c0))]) (As := [.int lw, .int mi]) (wc := []) ⟨hx, hb, hml, hown, hts⟩ (met_X5_priceBy lw mi) (va_cwS 2 hts (lw_S q1237 q1238 q46 q1239) rfl rfl rfl hdS_X5_priceBy ⟨Nat.le_of_ble_eq_true rfl, Nat.le_of_ble_eq_true rfl⟩) hK hP [] rfl rfl hl.1 rfl (Nat.le_of_ble_eq_true rfl) dX5_isSold_13 ⟨Nat.zero_le _, Nat.zero_le _⟩ (fun r_13 h_13 => ?_)
  obtain rfl : r_13 = sp_by lw mi := h_13
  refine lv_icmp_ge (tgt := 23) hx hb dX5_isSold_16 (by decide) (fun c_16 => ?_) (fun c_16 => ?_)
  · skip
    refine lv_iconst (v := 0) hx hb dX5_isSold_23 (by decide) ?_
    refine rt_sz hx hb hr hlocks dX5_isSold_24 rfl ?_
    show _ = bI _; grind [bI]
  · skip
    refine lv_iconst (v := 1) hx hb dX5_isSold_19 (by decide) ?_
    refine lv_goto (tgt := 24) hx hb dX5_isSold_20 (by decide) ?_
    refine rt_sz hx hb hr hlocks dX5_isSold_24 rfl ?_
    show _ = bI _; grind [bI]
theorem hdS_X5_buys : yX5_buys.cls ≠ "java/lang/invoke/MethodHandle" ∧ yX5_buys.cls ≠ "java/lang/invoke/VarHandle" ∧ (parseMethodDescriptor yX5_buys.desc).map (fun d => d.parameters.length) = some 4 := by decide +kernel
theorem hdV_X5_buys : yX5_buys.cls = RX5 ∧ yX5_buys.cls ≠ "java/lang/invoke/MethodHandle" ∧ yX5_buys.cls ≠ "java/lang/invoke/VarHandle" ∧ (parseMethodDescriptor yX5_buys.desc).map (fun d => d.parameters.length) = some 4 := ⟨rfl, hdS_X5_buys⟩
set_option maxHeartbeats 4000000 in
set_option maxRecDepth 100000 in
theorem met_X5_buys {l : Launch} {dC : Nat → ClassId} {dI : Nat → Nat → Nat} {dA : Nat → ClassId} (m0 : Nat) (a : Nat → Nat) (v : Nat → Int32) (wn : Nat) (kn : Nat) (pn : Nat) (lw : Int32) (mi : Int32) (w : Int32) (a0 : Int32) (c0 : Int32)  : Met l yX5_buys (ws_ yX5_buys cX5_buys 5 (some .int)) ({ frames := 4, cells := 0, slots := 0, locals := 192 } : Room) (RoP dC dI dA [.ref m0, .int mi, .int w, .int a0, .int c0] [(m0, .inr (4, moF a v)), ((a 0), .inl (dA 0, 4, .inl (mn4 wn kn pn lw)))]) (vp_Si (fun r => r = sp_buys lw mi w a0 c0)) 0 0 (fun _ => False) := by
  refine ofRo (cc := cX5_buys) (maxL := 5) (ret := (some .int)) (by decide) rfl (fun w h => List.mem_cons_of_mem _ h) (Nat.le_of_ble_eq_true rfl) ?_
  intro p e s m below meth c ls hx hb hr hlocks hml hts hown hP hK hl
  have hown : s.vm.findClass RX5 = some m.cls := hown
  have hl : lv_has ls 5 [(0, .ref m0), (1, .int mi), (2, .int w), (3, .int a0), (4, .int c0)] := hl
  refine lv_iload_n hx hb dX5_buys_0 rfl (lv_at hl 1 rfl) ?_
  refine ro_S (rest := []) (As := [.int mi]) (wc := []) ⟨hx, hb, hml, hown, hts⟩ (met_X5_isMinute mi) (va_cwS 1 hts (lw_S q1231 q1232 q46 q1233) rfl rfl rfl hdS_X5_isMinute ⟨Nat.le_of_ble_eq_true rfl, Nat.le_of_ble_eq_true rfl⟩) hK hP [] rfl rfl hl.1 rfl (Nat.le_of_ble_eq_true rfl) dX5_buys_1 ⟨Nat.zero_le _, Nat.zero_le _⟩ (fun r_1 h_1 => ?_)
  obtain rfl : r_1 = bI (0 ≤ mi ∧ mi ≤ 719) := h_1
  refine lv_if_eq (tgt := 38) hx hb dX5_buys_4 (by decide) (fun c_4 => ?_) (fun c_4 => ?_)
  · skip
    have c_4 := bI_eq0 (P := 0 ≤ mi ∧ mi ≤ 719) rfl c_4
    refine lv_iconst (v := (-1)) hx hb dX5_buys_38 (by decide) ?_
    refine rt_si hx hb hr hlocks dX5_buys_39 ?_
    clear hl hP hK hts hown hml hr hb hx hlocks
    show _ = _
    grind [sp_buys]
  · skip
    have c_4 := bI_ne0 (P := 0 ≤ mi ∧ mi ≤ 719) rfl c_4
    refine lv_iload_n hx hb dX5_buys_7 rfl (lv_at hl 2 rfl) ?_
    refine lv_iconst (v := 0) hx hb dX5_buys_8 (by decide) ?_
    refine lv_bipush (v := 60) hx hb dX5_buys_9 (by decide) ?_
    refine ro_S (rest := []) (As := [.int w, .int 0, .int 60]) (wc := []) ⟨hx, hb, hml, hown, hts⟩ (met_X5_isIn w 0 60) (va_cwS 3 hts (lw_S q1234 q1235 q46 q1236) rfl rfl rfl hdS_X5_isIn ⟨Nat.le_of_ble_eq_true rfl, Nat.le_of_ble_eq_true rfl⟩) hK hP [] rfl rfl hl.1 rfl (Nat.le_of_ble_eq_true rfl) dX5_buys_11 ⟨Nat.zero_le _, Nat.zero_le _⟩ (fun r_11 h_11 => ?_)
    obtain rfl : r_11 = bI (0 ≤ w ∧ w ≤ 60) := h_11
    refine lv_if_eq (tgt := 38) hx hb dX5_buys_14 (by decide) (fun c_14 => ?_) (fun c_14 => ?_)
    · skip
      have c_14 := bI_eq0 (P := 0 ≤ w ∧ w ≤ 60) rfl c_14
      refine lv_iconst (v := (-1)) hx hb dX5_buys_38 (by decide) ?_
      refine rt_si hx hb hr hlocks dX5_buys_39 ?_
      clear hl hP hK hts hown hml hr hb hx hlocks
      show _ = _
      grind [sp_buys]
    · skip
      have c_14 := bI_ne0 (P := 0 ≤ w ∧ w ≤ 60) rfl c_14
      refine lv_iload_n hx hb dX5_buys_17 rfl (lv_at hl 3 rfl) ?_
      refine lv_iconst (v := 0) hx hb dX5_buys_18 (by decide) ?_
      refine lv_bipush (v := 12) hx hb dX5_buys_19 (by decide) ?_
      refine ro_S (rest := []) (As := [.int a0, .int 0, .int 12]) (wc := []) ⟨hx, hb, hml, hown, hts⟩ (met_X5_isIn a0 0 12) (va_cwS 3 hts (lw_S q1234 q1235 q46 q1236) rfl rfl rfl hdS_X5_isIn ⟨Nat.le_of_ble_eq_true rfl, Nat.le_of_ble_eq_true rfl⟩) hK hP [] rfl rfl hl.1 rfl (Nat.le_of_ble_eq_true rfl) dX5_buys_21 ⟨Nat.zero_le _, Nat.zero_le _⟩ (fun r_21 h_21 => ?_)
      obtain rfl : r_21 = bI (0 ≤ a0 ∧ a0 ≤ 12) := h_21
      refine lv_if_eq (tgt := 38) hx hb dX5_buys_24 (by decide) (fun c_24 => ?_) (fun c_24 => ?_)
      · skip
        have c_24 := bI_eq0 (P := 0 ≤ a0 ∧ a0 ≤ 12) rfl c_24
        refine lv_iconst (v := (-1)) hx hb dX5_buys_38 (by decide) ?_
        refine rt_si hx hb hr hlocks dX5_buys_39 ?_
        clear hl hP hK hts hown hml hr hb hx hlocks
        show _ = _
        grind [sp_buys]
      · skip
        have c_24 := bI_ne0 (P := 0 ≤ a0 ∧ a0 ≤ 12) rfl c_24
        refine lv_iload hx hb dX5_buys_27 (lv_at hl 4 rfl) ?_
        refine lv_iconst (v := 0) hx hb dX5_buys_29 (by decide) ?_
        refine lv_bipush (v := 9) hx hb dX5_buys_30 (by decide) ?_
        refine ro_S (rest := []) (As := [.int c0, .int 0, .int 9]) (wc := []) ⟨hx, hb, hml, hown, hts⟩ (met_X5_isIn c0 0 9) (va_cwS 3 hts (lw_S q1234 q1235 q46 q1236) rfl rfl rfl hdS_X5_isIn ⟨Nat.le_of_ble_eq_true rfl, Nat.le_of_ble_eq_true rfl⟩) hK hP [] rfl rfl hl.1 rfl (Nat.le_of_ble_eq_true rfl) dX5_buys_32 ⟨Nat.zero_le _, Nat.zero_le _⟩ (fun r_32 h_32 => ?_)
        obtain rfl : r_32 = bI (0 ≤ c0 ∧ c0 ≤ 9) := h_32
        refine lv_if_ne (tgt := 40) hx hb dX5_buys_35 (by decide) (fun c_35 => ?_) (fun c_35 => ?_)
        · skip
          have c_35 := bI_ne0 (P := 0 ≤ c0 ∧ c0 ≤ 9) rfl c_35
          refine lv_aload_n hx hb dX5_buys_40 rfl (lv_at hl 0 rfl) ?_
          refine lv_iload_n hx hb dX5_buys_41 rfl (lv_at hl 1 rfl) ?_
          refine lv_iload_n hx hb dX5_buys_42 rfl (lv_at hl 2 rfl) ?_
          refine lv_iload_n hx hb dX5_buys_43 rfl (lv_at hl 3 rfl) ?_
          refine lv_iload hx hb dX5_buys_44 (lv_at hl 4 rfl) ?_
          refine ro_V (rest := []) (As := [.int mi, .int w, .int a0, .int c0]) (wc := [(m0, .inr (4, moF a v)), ((a 0), .inl (dA 0, 4, .inl (mn4 wn kn pn lw)))]) ⟨hx, hb, hml, hown, hts⟩ (met_X5_isSold m0 a v wn kn pn lw mi w a0 c0) (cwV 4 hts (lw_V q1354 q1356 qs30 q46 q1357) rfl rfl rfl hdV_X5_isSold ⟨Nat.le_of_ble_eq_true rfl, Nat.le_of_ble_eq_true rfl⟩) hK hP [0, 1] rfl (va_recv hK.1 hP (ci := 4) (q0 := 0) rfl rfl) rfl hl.1 rfl (Nat.le_of_ble_eq_true rfl) dX5_buys_46 ⟨Nat.zero_le _, Nat.zero_le _⟩ (fun r_46 h_46 => ?_)
          obtain rfl : r_46 = bI (a0 + w * c0 < sp_by lw mi) := h_46
          refine lv_if_eq (tgt := 56) hx hb dX5_buys_49 (by decide) (fun c_49 => ?_) (fun c_49 => ?_)
          · skip
            have c_49 := bI_eq0 (P := a0 + w * c0 < sp_by lw mi) rfl c_49
            refine lv_iconst (v := 0) hx hb dX5_buys_56 (by decide) ?_
            refine rt_si hx hb hr hlocks dX5_buys_57 ?_
            clear hl hP hK hts hown hml hr hb hx hlocks
            show _ = _
            grind [sp_buys]
          · skip
            have c_49 := bI_ne0 (P := a0 + w * c0 < sp_by lw mi) rfl c_49
            refine lv_iconst (v := 1) hx hb dX5_buys_52 (by decide) ?_
            refine lv_goto (tgt := 57) hx hb dX5_buys_53 (by decide) ?_
            refine rt_si hx hb hr hlocks dX5_buys_57 ?_
            clear hl hP hK hts hown hml hr hb hx hlocks
            show _ = _
            grind [sp_buys]
        · skip
          have c_35 := bI_eq0 (P := 0 ≤ c0 ∧ c0 ≤ 9) rfl c_35
          refine lv_iconst (v := (-1)) hx hb dX5_buys_38 (by decide) ?_
          refine rt_si hx hb hr hlocks dX5_buys_39 ?_
          clear hl hP hK hts hown hml hr hb hx hlocks
          show _ = _
          grind [sp_buys]
theorem hdS_X5_otherPrice : yX5_otherPrice.cls ≠ "java/lang/invoke/MethodHandle" ∧ yX5_otherPrice.cls ≠ "java/lang/invoke/VarHandle" ∧ (parseMethodDescriptor yX5_otherPrice.desc).map (fun d => d.parameters.length) = some 1 := by decide +kernel
theorem hdV_X5_otherPrice : yX5_otherPrice.cls = RX5 ∧ yX5_otherPrice.cls ≠ "java/lang/invoke/MethodHandle" ∧ yX5_otherPrice.cls ≠ "java/lang/invoke/VarHandle" ∧ (parseMethodDescriptor yX5_otherPrice.desc).map (fun d => d.parameters.length) = some 1 := ⟨rfl, hdS_X5_otherPrice⟩
set_option maxHeartbeats 4000000 in
set_option maxRecDepth 100000 in
theorem met_X5_otherPrice {l : Launch} {dC : Nat → ClassId} {dI : Nat → Nat → Nat} {dA : Nat → ClassId} (m0 : Nat) (a : Nat → Nat) (v : Nat → Int32) (wn : Nat) (kn : Nat) (pn : Nat) (lw : Int32) (mi : Int32)  : Met l yX5_otherPrice (ws_ yX5_otherPrice cX5_otherPrice 2 (some .int)) ({ frames := 3, cells := 0, slots := 0, locals := 128 } : Room) (RoP dC dI dA [.ref m0, .int mi] [(m0, .inr (4, moF a v)), ((a 0), .inl (dA 0, 4, .inl (mn4 wn kn pn lw)))]) (vp_Si (fun r => r = sp_other lw mi)) 0 0 (fun _ => False) := by
  refine ofRo (cc := cX5_otherPrice) (maxL := 2) (ret := (some .int)) (by decide) rfl (fun w h => List.mem_cons_of_mem _ h) (Nat.le_of_ble_eq_true rfl) ?_
  intro p e s m below meth c ls hx hb hr hlocks hml hts hown hP hK hl
  have hown : s.vm.findClass RX5 = some m.cls := hown
  have hl : lv_has ls 2 [(0, .ref m0), (1, .int mi)] := hl
  refine lv_aload_n hx hb dX5_otherPrice_0 rfl (lv_at hl 0 rfl) ?_
  refine va_get (D := (dC, dI)) (ci := 4) (v := .ref (a 0)) (C := RX5) (T := TX5) (N := 41) hx hb hts in_X5 hown hK.1 hP 0 rfl rfl 0 (by decide) (hts _ q1092) (fun _ h9 => h9) rfl dX5_otherPrice_1 ?_
  refine lv_iconst (v := 3) hx hb dX5_otherPrice_4 (by decide) ?_
  refine va_iald hx hb hK.1 hP 1 0 rfl rfl (vin (by decide)) dX5_otherPrice_5 ?_
  refine lv_eqi (y := lw) rfl ?_
  refine lv_iload_n hx hb dX5_otherPrice_6 rfl (lv_at hl 1 rfl) ?_
  refine lv_bipush (v := 60) hx hb dX5_otherPrice_7 (by decide) ?_
  refine lv_iadd hx hb dX5_otherPrice_9 ?_
  refine lv_sipush (v := 720) hx hb dX5_otherPrice_10 (by decide) ?_
  refine lv_irem hx hb dX5_otherPrice_13 (by decide) ?_
  refine ro_S (rest := []) (As := [.int lw, .int ((mi + 60) - (mi + 60) / 720 * 720)]) (wc := []) ⟨hx, hb, hml, hown, hts⟩ (met_X5_priceBy lw ((mi + 60) - (mi + 60) / 720 * 720)) (va_cwS 2 hts (lw_S q1237 q1238 q46 q1239) rfl rfl rfl hdS_X5_priceBy ⟨Nat.le_of_ble_eq_true rfl, Nat.le_of_ble_eq_true rfl⟩) hK hP [] rfl rfl hl.1 rfl (Nat.le_of_ble_eq_true rfl) dX5_otherPrice_14 ⟨Nat.zero_le _, Nat.zero_le _⟩ (fun r_14 h_14 => ?_)
  obtain rfl : r_14 = sp_by lw ((mi + 60) - (mi + 60) / 720 * 720) := h_14
  refine rt_si hx hb hr hlocks dX5_otherPrice_17 ?_
  rfl
theorem hdS_X5_cheaper : yX5_cheaper.cls ≠ "java/lang/invoke/MethodHandle" ∧ yX5_cheaper.cls ≠ "java/lang/invoke/VarHandle" ∧ (parseMethodDescriptor yX5_cheaper.desc).map (fun d => d.parameters.length) = some 1 := by decide +kernel
theorem hdV_X5_cheaper : yX5_cheaper.cls = RX5 ∧ yX5_cheaper.cls ≠ "java/lang/invoke/MethodHandle" ∧ yX5_cheaper.cls ≠ "java/lang/invoke/VarHandle" ∧ (parseMethodDescriptor yX5_cheaper.desc).map (fun d => d.parameters.length) = some 1 := ⟨rfl, hdS_X5_cheaper⟩
set_option maxHeartbeats 4000000 in
set_option maxRecDepth 100000 in
theorem met_X5_cheaper {l : Launch} {dC : Nat → ClassId} {dI : Nat → Nat → Nat} {dA : Nat → ClassId} (m0 : Nat) (a : Nat → Nat) (v : Nat → Int32) (wn : Nat) (kn : Nat) (pn : Nat) (lw : Int32) (mi : Int32)  : Met l yX5_cheaper (ws_ yX5_cheaper cX5_cheaper 2 (some .int)) ({ frames := 4, cells := 0, slots := 0, locals := 192 } : Room) (RoP dC dI dA [.ref m0, .int mi] [(m0, .inr (4, moF a v)), ((a 0), .inl (dA 0, 4, .inl (mn4 wn kn pn lw)))]) (vp_Si (fun r => r = sp_cheaper lw mi)) 0 0 (fun _ => False) := by
  refine ofRo (cc := cX5_cheaper) (maxL := 2) (ret := (some .int)) (by decide) rfl (fun w h => List.mem_cons_of_mem _ h) (Nat.le_of_ble_eq_true rfl) ?_
  intro p e s m below meth c ls hx hb hr hlocks hml hts hown hP hK hl
  have hown : s.vm.findClass RX5 = some m.cls := hown
  have hl : lv_has ls 2 [(0, .ref m0), (1, .int mi)] := hl
  refine lv_iload_n hx hb dX5_cheaper_0 rfl (lv_at hl 1 rfl) ?_
  refine ro_S (rest := []) (As := [.int mi]) (wc := []) ⟨hx, hb, hml, hown, hts⟩ (met_X5_isMinute mi) (va_cwS 1 hts (lw_S q1231 q1232 q46 q1233) rfl rfl rfl hdS_X5_isMinute ⟨Nat.le_of_ble_eq_true rfl, Nat.le_of_ble_eq_true rfl⟩) hK hP [] rfl rfl hl.1 rfl (Nat.le_of_ble_eq_true rfl) dX5_cheaper_1 ⟨Nat.zero_le _, Nat.zero_le _⟩ (fun r_1 h_1 => ?_)
  obtain rfl : r_1 = bI (0 ≤ mi ∧ mi ≤ 719) := h_1
  refine lv_if_eq (tgt := 28) hx hb dX5_cheaper_4 (by decide) (fun c_4 => ?_) (fun c_4 => ?_)
  · skip
    have c_4 := bI_eq0 (P := 0 ≤ mi ∧ mi ≤ 719) rfl c_4
    refine lv_iconst (v := (-1)) hx hb dX5_cheaper_28 (by decide) ?_
    refine rt_si hx hb hr hlocks dX5_cheaper_29 ?_
    clear hl hP hK hts hown hml hr hb hx hlocks
    show _ = _
    grind [sp_cheaper]
  · skip
    have c_4 := bI_ne0 (P := 0 ≤ mi ∧ mi ≤ 719) rfl c_4
    refine lv_aload_n hx hb dX5_cheaper_7 rfl (lv_at hl 0 rfl) ?_
    refine va_get (D := (dC, dI)) (ci := 4) (v := .ref (a 0)) (C := RX5) (T := TX5) (N := 41) hx hb hts in_X5 hown hK.1 hP 0 rfl rfl 0 (by decide) (hts _ q1092) (fun _ h9 => h9) rfl dX5_cheaper_8 ?_
    refine lv_iconst (v := 3) hx hb dX5_cheaper_11 (by decide) ?_
    refine va_iald hx hb hK.1 hP 1 0 rfl rfl (vin (by decide)) dX5_cheaper_12 ?_
    refine lv_eqi (y := lw) rfl ?_
    refine lv_iload_n hx hb dX5_cheaper_13 rfl (lv_at hl 1 rfl) ?_
    refine ro_S (rest := []) (As := [.int lw, .int mi]) (wc := []) ⟨hx, hb, hml, hown, hts⟩ (met_X5_priceBy lw mi) (va_cwS 2 hts (lw_S q1237 q1238 q46 q1239) rfl rfl rfl hdS_X5_priceBy ⟨Nat.le_of_ble_eq_true rfl, Nat.le_of_ble_eq_true rfl⟩) hK hP [] rfl rfl hl.1 rfl (Nat.le_of_ble_eq_true rfl) dX5_cheaper_14 ⟨Nat.zero_le _, Nat.zero_le _⟩ (fun r_14 h_14 => ?_)
    obtain rfl : r_14 = sp_by lw mi := h_14
    refine lv_aload_n hx hb dX5_cheaper_17 rfl (lv_at hl 0 rfl) ?_
    refine lv_iload_n hx hb dX5_cheaper_18 rfl (lv_at hl 1 rfl) ?_
    refine ro_V (rest := [.int (sp_by lw mi)]) (As := [.int mi]) (wc := [(m0, .inr (4, moF a v)), ((a 0), .inl (dA 0, 4, .inl (mn4 wn kn pn lw)))]) ⟨hx, hb, hml, hown, hts⟩ (met_X5_otherPrice m0 a v wn kn pn lw mi) (cwV 1 hts (lw_V q1366 q1368 qs31 q46 q1369) rfl rfl rfl hdV_X5_otherPrice ⟨Nat.le_of_ble_eq_true rfl, Nat.le_of_ble_eq_true rfl⟩) hK hP [0, 1] rfl (va_recv hK.1 hP (ci := 4) (q0 := 0) rfl rfl) rfl hl.1 rfl (Nat.le_of_ble_eq_true rfl) dX5_cheaper_19 ⟨Nat.zero_le _, Nat.zero_le _⟩ (fun r_19 h_19 => ?_)
    obtain rfl : r_19 = sp_other lw mi := h_19
    refine va_mmin (rest := []) hx hb (hml.trans hl.1.symm) hown (hts _ q1302) (hts _ q641) (hts _ q61) (hts _ q642) (Nat.le_of_ble_eq_true rfl) (Nat.le_of_ble_eq_true rfl) (Nat.le_of_ble_eq_true rfl) (Nat.le_of_ble_eq_true rfl) dX5_cheaper_22 ?_
    refine lv_eqi (y := (imin (sp_by lw mi) (sp_other lw mi))) rfl ?_
    refine lv_goto (tgt := 29) hx hb dX5_cheaper_25 (by decide) ?_
    refine rt_si hx hb hr hlocks dX5_cheaper_29 ?_
    clear hl hP hK hts hown hml hr hb hx hlocks
    show _ = _
    grind [sp_cheaper]
theorem hdS_X5_count : yX5_count.cls ≠ "java/lang/invoke/MethodHandle" ∧ yX5_count.cls ≠ "java/lang/invoke/VarHandle" ∧ (parseMethodDescriptor yX5_count.desc).map (fun d => d.parameters.length) = some 1 := by decide +kernel
theorem hdV_X5_count : yX5_count.cls = RX5 ∧ yX5_count.cls ≠ "java/lang/invoke/MethodHandle" ∧ yX5_count.cls ≠ "java/lang/invoke/VarHandle" ∧ (parseMethodDescriptor yX5_count.desc).map (fun d => d.parameters.length) = some 1 := ⟨rfl, hdS_X5_count⟩
set_option maxHeartbeats 4000000 in
set_option maxRecDepth 100000 in
theorem met_X5_count {l : Launch} {dC : Nat → ClassId} {dI : Nat → Nat → Nat} {dA : Nat → ClassId} (m0 : Nat) (a : Nat → Nat) (v : Nat → Int32) (wn : Nat) (kn : Nat) (pn : Nat) (lw : Int32) (wal : Nat → Int32) (what : Int32) (hw5 : wn ≤ 5) : Met l yX5_count (ws_ yX5_count cX5_count 4 (some .int)) ({ frames := 3, cells := 0, slots := 0, locals := 128 } : Room) (RoP dC dI dA [.ref m0, .int what] [(m0, .inr (4, moF a v)), ((a 0), .inl (dA 0, 4, .inl (mn4 wn kn pn lw))), ((a 2), .inl (dA 0, 5, .inl wal))]) (vp_Si (fun r => r = sp_count wn kn pn lw wal what)) 0 0 (fun _ => False) := by
  refine ofRo (cc := cX5_count) (maxL := 4) (ret := (some .int)) (by decide) rfl (fun w h => List.mem_cons_of_mem _ h) (Nat.le_of_ble_eq_true rfl) ?_
  intro p e s m below meth c ls hx hb hr hlocks hml hts hown hP hK hl
  have hown : s.vm.findClass RX5 = some m.cls := hown
  have hl : lv_has ls 4 [(0, .ref m0), (1, .int what)] := hl
  refine lv_iload_n hx hb dX5_count_0 rfl (lv_at hl 1 rfl) ?_
  by_cases c_1_0 : what = 0
  · skip
    refine lv_tableIn (x := what) (off := 35) (tgt := 36) hx hb dX5_count_1 (by rw [c_1_0]; decide) (by rw [c_1_0]; decide) (by rw [c_1_0]; rfl) (by decide) ?_
    refine lv_aload_n hx hb dX5_count_36 rfl (lv_at hl 0 rfl) ?_
    refine va_get (D := (dC, dI)) (ci := 4) (v := .ref (a 0)) (C := RX5) (T := TX5) (N := 41) hx hb hts in_X5 hown hK.1 hP 0 rfl rfl 0 (by decide) (hts _ q1092) (fun _ h9 => h9) rfl dX5_count_37 ?_
    refine lv_iconst (v := 0) hx hb dX5_count_40 (by decide) ?_
    refine va_iald hx hb hK.1 hP 1 0 rfl rfl (vin (by decide)) dX5_count_41 ?_
    refine lv_eqi (y := (nI wn)) rfl ?_
    refine rt_si hx hb hr hlocks dX5_count_42 ?_
    clear hl hP hK hts hown hml hr hb hx hlocks
    show _ = _
    grind [sp_count]
  by_cases c_1_1 : what = 1
  · skip
    refine lv_tableIn (x := what) (off := 42) (tgt := 43) hx hb dX5_count_1 (by rw [c_1_1]; decide) (by rw [c_1_1]; decide) (by rw [c_1_1]; rfl) (by decide) ?_
    refine lv_aload_n hx hb dX5_count_43 rfl (lv_at hl 0 rfl) ?_
    refine va_get (D := (dC, dI)) (ci := 4) (v := .ref (a 0)) (C := RX5) (T := TX5) (N := 41) hx hb hts in_X5 hown hK.1 hP 0 rfl rfl 0 (by decide) (hts _ q1092) (fun _ h9 => h9) rfl dX5_count_44 ?_
    refine lv_iconst (v := 1) hx hb dX5_count_47 (by decide) ?_
    refine va_iald hx hb hK.1 hP 1 0 rfl rfl (vin (by decide)) dX5_count_48 ?_
    refine lv_eqi (y := (nI kn)) rfl ?_
    refine rt_si hx hb hr hlocks dX5_count_49 ?_
    clear hl hP hK hts hown hml hr hb hx hlocks
    show _ = _
    grind [sp_count]
  by_cases c_1_2 : what = 2
  · skip
    refine lv_tableIn (x := what) (off := 49) (tgt := 50) hx hb dX5_count_1 (by rw [c_1_2]; decide) (by rw [c_1_2]; decide) (by rw [c_1_2]; rfl) (by decide) ?_
    refine lv_aload_n hx hb dX5_count_50 rfl (lv_at hl 0 rfl) ?_
    refine va_get (D := (dC, dI)) (ci := 4) (v := .ref (a 0)) (C := RX5) (T := TX5) (N := 41) hx hb hts in_X5 hown hK.1 hP 0 rfl rfl 0 (by decide) (hts _ q1092) (fun _ h9 => h9) rfl dX5_count_51 ?_
    refine lv_iconst (v := 2) hx hb dX5_count_54 (by decide) ?_
    refine va_iald hx hb hK.1 hP 1 0 rfl rfl (vin (by decide)) dX5_count_55 ?_
    refine lv_eqi (y := (nI pn)) rfl ?_
    refine rt_si hx hb hr hlocks dX5_count_56 ?_
    clear hl hP hK hts hown hml hr hb hx hlocks
    show _ = _
    grind [sp_count]
  by_cases c_1_3 : what = 3
  · skip
    refine lv_tableIn (x := what) (off := 56) (tgt := 57) hx hb dX5_count_1 (by rw [c_1_3]; decide) (by rw [c_1_3]; decide) (by rw [c_1_3]; rfl) (by decide) ?_
    refine lv_iconst (v := 0) hx hb dX5_count_57 (by decide) ?_
    refine lv_istore_n (lv' := [(2, .int 0), (0, .ref m0), (1, .int what)]) hx hb dX5_count_58 rfl hl (by decide) rfl (fun ls hl => ?_)
    refine lv_iconst (v := 0) hx hb dX5_count_59 (by decide) ?_
    refine lv_istore_n (lv' := [(3, .int 0), (2, .int 0), (0, .ref m0), (1, .int what)]) hx hb dX5_count_60 rfl hl (by decide) rfl (fun ls hl => ?_)
    have K_61 : ∀ (fuel : Nat), ∀ (k : Nat), (k ≤ wn) → (wn < k + fuel) → ∀ (ls : Array Slot), lv_has ls 4 [(0, .ref m0), (1, .int what), (2, .int (sp_sum wal k)), (3, .int (nI k))] → W p l e ({ frames := 3, cells := 0, slots := 0, locals := 128 } : Room) s m ([.ref m0, .int what] : List Value).toArray below meth c s.heap [] 0 0 (MQ below (vp_Si (fun r => r = sp_count wn kn pn lw wal what)) ([.ref m0, .int what] : List Value).toArray s 0 0 (fun _ => False)) (F0 m 61 ls []) := by
      intro fuel
      induction fuel with
      | zero =>
        intro k hk hf ls hl
        exact absurd hf (by omega)
      | succ fuel ih_61 =>
        intro k hk hf ls hl
        refine lv_iload_n hx hb dX5_count_61 rfl (lv_at hl 3 rfl) ?_
        refine lv_aload_n hx hb dX5_count_62 rfl (lv_at hl 0 rfl) ?_
        refine va_get (D := (dC, dI)) (ci := 4) (v := .ref (a 0)) (C := RX5) (T := TX5) (N := 41) hx hb hts in_X5 hown hK.1 hP 0 rfl rfl 0 (by decide) (hts _ q1092) (fun _ h9 => h9) rfl dX5_count_63 ?_
        refine lv_iconst (v := 0) hx hb dX5_count_66 (by decide) ?_
        refine va_iald hx hb hK.1 hP 1 0 rfl rfl (vin (by decide)) dX5_count_67 ?_
        refine lv_eqi (y := (nI wn)) rfl ?_
        refine lv_icmp_ge (tgt := 86) hx hb dX5_count_68 (by decide) (fun c_68 => ?_) (fun c_68 => ?_)
        · skip
          have n_c_68 : wn ≤ k := (nI_leI (a := wn) (b := k) (by omega) (by omega)).mp c_68
          refine lv_iload_n hx hb dX5_count_86 rfl (lv_at hl 2 rfl) ?_
          refine rt_si hx hb hr hlocks dX5_count_87 ?_
          obtain rfl : k = wn := by omega
          clear hl hP hK hts hown hml hr hb hx hlocks
          show _ = _
          grind [sp_count]
        · skip
          have n_c_68 : ¬ wn ≤ k := fun h9 => c_68 ((nI_leI (a := wn) (b := k) (by omega) (by omega)).mpr h9)
          refine lv_iload_n hx hb dX5_count_71 rfl (lv_at hl 2 rfl) ?_
          refine lv_aload_n hx hb dX5_count_72 rfl (lv_at hl 0 rfl) ?_
          refine va_get (D := (dC, dI)) (ci := 4) (v := .ref (a 2)) (C := RX5) (T := TX5) (N := 41) hx hb hts in_X5 hown hK.1 hP 0 rfl rfl 2 (by decide) (hts _ q1094) (fun _ h9 => h9) rfl dX5_count_73 ?_
          refine lv_iload_n hx hb dX5_count_76 rfl (lv_at hl 3 rfl) ?_
          refine va_iald hx hb hK.1 hP 2 0 rfl rfl (vp_in_nI (by omega) (by omega)) dX5_count_77 ?_
          refine lv_eqi (y := (wal k)) (congrArg _ (nI_clamp (by omega))) ?_
          refine lv_iadd hx hb dX5_count_78 ?_
          refine lv_istore_n (lv' := [(2, .int ((sp_sum wal k) + (wal k))), (0, .ref m0), (1, .int what), (3, .int (nI k))]) hx hb dX5_count_79 rfl hl (by decide) rfl (fun ls hl => ?_)
          refine lv_iinc (v := (nI (k + 1))) (lv' := [(3, .int (nI (k + 1))), (2, .int ((sp_sum wal k) + (wal k))), (0, .ref m0), (1, .int what)]) hx hb dX5_count_80 hl (k := 3) rfl (nI_1 k) (by decide) rfl (fun ls hl => ?_)
          refine lv_goto (tgt := 61) hx hb dX5_count_83 (by decide) ?_
          exact ih_61 (k + 1) (by omega) (by omega) ls (lv_sub hl [2, 3, 1, 0] rfl)
    exact K_61 (wn + 1) 0 (by omega) (by omega) ls (lv_sub hl [2, 3, 1, 0] rfl)
  by_cases c_1_4 : what = 4
  · skip
    refine lv_tableIn (x := what) (off := 87) (tgt := 88) hx hb dX5_count_1 (by rw [c_1_4]; decide) (by rw [c_1_4]; decide) (by rw [c_1_4]; rfl) (by decide) ?_
    refine lv_aload_n hx hb dX5_count_88 rfl (lv_at hl 0 rfl) ?_
    refine va_get (D := (dC, dI)) (ci := 4) (v := .ref (a 0)) (C := RX5) (T := TX5) (N := 41) hx hb hts in_X5 hown hK.1 hP 0 rfl rfl 0 (by decide) (hts _ q1092) (fun _ h9 => h9) rfl dX5_count_89 ?_
    refine lv_iconst (v := 3) hx hb dX5_count_92 (by decide) ?_
    refine va_iald hx hb hK.1 hP 1 0 rfl rfl (vin (by decide)) dX5_count_93 ?_
    refine lv_eqi (y := lw) rfl ?_
    refine rt_si hx hb hr hlocks dX5_count_94 ?_
    clear hl hP hK hts hown hml hr hb hx hlocks
    show _ = _
    grind [sp_count]
  refine lv_tableOut (x := what) (tgt := 95) hx hb dX5_count_1 (by rcases sw_out (x := what) (lo := 0) (n := 5) (by decide) (fun j hj => match j, hj with | 0, _ => c_1_0 | 1, _ => c_1_1 | 2, _ => c_1_2 | 3, _ => c_1_3 | 4, _ => c_1_4 | (k + 5), h => absurd h (by omega)) with h | h <;> omega) (by decide) ?_
  refine lv_iconst (v := (-1)) hx hb dX5_count_95 (by decide) ?_
  refine rt_si hx hb hr hlocks dX5_count_96 ?_
  clear hl hP hK hts hown hml hr hb hx hlocks
  show _ = _
  grind [sp_count]
theorem hdS_X5_isPlanned : yX5_isPlanned.cls ≠ "java/lang/invoke/MethodHandle" ∧ yX5_isPlanned.cls ≠ "java/lang/invoke/VarHandle" ∧ (parseMethodDescriptor yX5_isPlanned.desc).map (fun d => d.parameters.length) = some 1 := by decide +kernel
theorem hdV_X5_isPlanned : yX5_isPlanned.cls = RX5 ∧ yX5_isPlanned.cls ≠ "java/lang/invoke/MethodHandle" ∧ yX5_isPlanned.cls ≠ "java/lang/invoke/VarHandle" ∧ (parseMethodDescriptor yX5_isPlanned.desc).map (fun d => d.parameters.length) = some 1 := ⟨rfl, hdS_X5_isPlanned⟩
set_option maxHeartbeats 4000000 in
set_option maxRecDepth 100000 in
theorem met_X5_isPlanned {l : Launch} {dC : Nat → ClassId} {dI : Nat → Nat → Nat} {dA : Nat → ClassId} (m0 : Nat) (a : Nat → Nat) (v : Nat → Int32) (wn : Nat) (kn : Nat) (pn : Nat) (lw : Int32) (pla : Nat → Int32) (mi : Int32) (hp8 : pn ≤ 8) : Met l yX5_isPlanned (ws_ yX5_isPlanned cX5_isPlanned 4 (some .boolean)) ({ frames := 3, cells := 0, slots := 0, locals := 128 } : Room) (RoP dC dI dA [.ref m0, .int mi] [(m0, .inr (4, moF a v)), ((a 0), .inl (dA 0, 4, .inl (mn4 wn kn pn lw))), ((a 8), .inl (dA 0, 8, .inl pla))]) (vp_Si (fun r => r = bI (sp_plan pla mi pn = true))) 0 0 (fun _ => False) := by
  refine ofRo (cc := cX5_isPlanned) (maxL := 4) (ret := (some .boolean)) (by decide) rfl (fun w h => List.mem_cons_of_mem _ h) (Nat.le_of_ble_eq_true rfl) ?_
  intro p e s m below meth c ls hx hb hr hlocks hml hts hown hP hK hl
  have hown : s.vm.findClass RX5 = some m.cls := hown
  have hl : lv_has ls 4 [(0, .ref m0), (1, .int mi)] := hl
  refine lv_iconst (v := 0) hx hb dX5_isPlanned_0 (by decide) ?_
  refine lv_istore_n (lv' := [(2, .int 0), (0, .ref m0), (1, .int mi)]) hx hb dX5_isPlanned_1 rfl hl (by decide) rfl (fun ls hl => ?_)
  refine lv_iconst (v := 0) hx hb dX5_isPlanned_2 (by decide) ?_
  refine lv_istore_n (lv' := [(3, .int 0), (2, .int 0), (0, .ref m0), (1, .int mi)]) hx hb dX5_isPlanned_3 rfl hl (by decide) rfl (fun ls hl => ?_)
  have K_4 : ∀ (fuel : Nat), ∀ (k : Nat) (x : Int32), (k ≤ pn) → (pn < k + fuel) → (x = bI (sp_plan pla mi k = true)) → ∀ (ls : Array Slot), lv_has ls 4 [(0, .ref m0), (1, .int mi), (2, .int x), (3, .int (nI k))] → W p l e ({ frames := 3, cells := 0, slots := 0, locals := 128 } : Room) s m ([.ref m0, .int mi] : List Value).toArray below meth c s.heap [] 0 0 (MQ below (vp_Si (fun r => r = bI (sp_plan pla mi pn = true))) ([.ref m0, .int mi] : List Value).toArray s 0 0 (fun _ => False)) (F0 m 4 ls []) := by
    intro fuel
    induction fuel with
    | zero =>
      intro k x hk hf hx9 ls hl
      exact absurd hf (by omega)
    | succ fuel ih_4 =>
      intro k x hk hf hx9 ls hl
      refine lv_iload_n hx hb dX5_isPlanned_4 rfl (lv_at hl 3 rfl) ?_
      refine lv_aload_n hx hb dX5_isPlanned_5 rfl (lv_at hl 0 rfl) ?_
      refine va_get (D := (dC, dI)) (ci := 4) (v := .ref (a 0)) (C := RX5) (T := TX5) (N := 41) hx hb hts in_X5 hown hK.1 hP 0 rfl rfl 0 (by decide) (hts _ q1092) (fun _ h9 => h9) rfl dX5_isPlanned_6 ?_
      refine lv_iconst (v := 2) hx hb dX5_isPlanned_9 (by decide) ?_
      refine va_iald hx hb hK.1 hP 1 0 rfl rfl (vin (by decide)) dX5_isPlanned_10 ?_
      refine lv_eqi (y := (nI pn)) rfl ?_
      refine lv_icmp_ge (tgt := 40) hx hb dX5_isPlanned_11 (by decide) (fun c_11 => ?_) (fun c_11 => ?_)
      · skip
        have n_c_11 : pn ≤ k := (nI_leI (a := pn) (b := k) (by omega) (by omega)).mp c_11
        refine lv_iload_n hx hb dX5_isPlanned_40 rfl (lv_at hl 2 rfl) ?_
        refine rt_sz hx hb hr hlocks dX5_isPlanned_41 (bI_narr hx9) ?_
        obtain rfl : k = pn := by omega
        exact hx9
      · skip
        have n_c_11 : ¬ pn ≤ k := fun h9 => c_11 ((nI_leI (a := pn) (b := k) (by omega) (by omega)).mpr h9)
        refine lv_iload_n hx hb dX5_isPlanned_14 rfl (lv_at hl 2 rfl) ?_
        refine lv_if_ne (tgt := 28) hx hb dX5_isPlanned_15 (by decide) (fun c_15 => ?_) (fun c_15 => ?_)
        · skip
          refine lv_iconst (v := 1) hx hb dX5_isPlanned_28 (by decide) ?_
          refine lv_goto (tgt := 33) hx hb dX5_isPlanned_29 (by decide) ?_
          refine lv_istore_n (lv' := [(2, .int 1), (0, .ref m0), (1, .int mi), (3, .int (nI k))]) hx hb dX5_isPlanned_33 rfl hl (by decide) rfl (fun ls hl => ?_)
          refine lv_iinc (v := (nI (k + 1))) (lv' := [(3, .int (nI (k + 1))), (2, .int 1), (0, .ref m0), (1, .int mi)]) hx hb dX5_isPlanned_34 hl (k := 3) rfl (nI_1 k) (by decide) rfl (fun ls hl => ?_)
          refine lv_goto (tgt := 4) hx hb dX5_isPlanned_37 (by decide) ?_
          exact ih_4 (k + 1) 1 (by omega) (by omega) (by clear hl hP hK hts; subst_vars; grind [sp_plan, bI]) ls (lv_sub hl [2, 3, 1, 0] rfl)
        · skip
          refine lv_aload_n hx hb dX5_isPlanned_18 rfl (lv_at hl 0 rfl) ?_
          refine va_get (D := (dC, dI)) (ci := 4) (v := .ref (a 8)) (C := RX5) (T := TX5) (N := 41) hx hb hts in_X5 hown hK.1 hP 0 rfl rfl 8 (by decide) (hts _ q1100) (fun _ h9 => h9) rfl dX5_isPlanned_19 ?_
          refine lv_iload_n hx hb dX5_isPlanned_22 rfl (lv_at hl 3 rfl) ?_
          refine va_iald hx hb hK.1 hP 2 0 rfl rfl (vp_in_nI (by omega) (by omega)) dX5_isPlanned_23 ?_
          refine lv_eqi (y := (pla k)) (congrArg _ (nI_clamp (by omega))) ?_
          refine lv_iload_n hx hb dX5_isPlanned_24 rfl (lv_at hl 1 rfl) ?_
          refine lv_icmp_ne (tgt := 32) hx hb dX5_isPlanned_25 (by decide) (fun c_25 => ?_) (fun c_25 => ?_)
          · skip
            refine lv_iconst (v := 0) hx hb dX5_isPlanned_32 (by decide) ?_
            refine lv_istore_n (lv' := [(2, .int 0), (0, .ref m0), (1, .int mi), (3, .int (nI k))]) hx hb dX5_isPlanned_33 rfl hl (by decide) rfl (fun ls hl => ?_)
            refine lv_iinc (v := (nI (k + 1))) (lv' := [(3, .int (nI (k + 1))), (2, .int 0), (0, .ref m0), (1, .int mi)]) hx hb dX5_isPlanned_34 hl (k := 3) rfl (nI_1 k) (by decide) rfl (fun ls hl => ?_)
            refine lv_goto (tgt := 4) hx hb dX5_isPlanned_37 (by decide) ?_
            exact ih_4 (k + 1) 0 (by omega) (by omega) (by clear hl hP hK hts; subst_vars; grind [sp_plan, bI]) ls (lv_sub hl [2, 3, 1, 0] rfl)
          · skip
            refine lv_iconst (v := 1) hx hb dX5_isPlanned_28 (by decide) ?_
            refine lv_goto (tgt := 33) hx hb dX5_isPlanned_29 (by decide) ?_
            refine lv_istore_n (lv' := [(2, .int 1), (0, .ref m0), (1, .int mi), (3, .int (nI k))]) hx hb dX5_isPlanned_33 rfl hl (by decide) rfl (fun ls hl => ?_)
            refine lv_iinc (v := (nI (k + 1))) (lv' := [(3, .int (nI (k + 1))), (2, .int 1), (0, .ref m0), (1, .int mi)]) hx hb dX5_isPlanned_34 hl (k := 3) rfl (nI_1 k) (by decide) rfl (fun ls hl => ?_)
            refine lv_goto (tgt := 4) hx hb dX5_isPlanned_37 (by decide) ?_
            exact ih_4 (k + 1) 1 (by omega) (by omega) (by clear hl hP hK hts; subst_vars; grind [sp_plan, bI]) ls (lv_sub hl [2, 3, 1, 0] rfl)
  exact K_4 (pn + 1) 0 0 (by omega) (by omega) (by clear hl hP hK hts; subst_vars; grind [sp_plan, bI]) ls (lv_sub hl [2, 3, 1, 0] rfl)
theorem hdS_X5_nine : yX5_nine.cls ≠ "java/lang/invoke/MethodHandle" ∧ yX5_nine.cls ≠ "java/lang/invoke/VarHandle" ∧ (parseMethodDescriptor yX5_nine.desc).map (fun d => d.parameters.length) = some 2 := by decide +kernel
theorem hdV_X5_nine : yX5_nine.cls = RX5 ∧ yX5_nine.cls ≠ "java/lang/invoke/MethodHandle" ∧ yX5_nine.cls ≠ "java/lang/invoke/VarHandle" ∧ (parseMethodDescriptor yX5_nine.desc).map (fun d => d.parameters.length) = some 2 := ⟨rfl, hdS_X5_nine⟩
set_option maxHeartbeats 4000000 in
set_option maxRecDepth 100000 in
theorem met_X5_nine {l : Launch} {dC : Nat → ClassId} {dI : Nat → Nat → Nat} {dA : Nat → ClassId} (m0 : Nat) (a : Nat → Nat) (v : Nat → Int32) (wn : Nat) (kn : Nat) (pn : Nat) (lw : Int32) (mi : Int32) (mm : Int32)  : Met l yX5_nine (ws_ yX5_nine cX5_nine 4 (some .int)) ({ frames := 4, cells := 0, slots := 0, locals := 192 } : Room) (RoP dC dI dA [.ref m0, .int mi, .int mm] [(m0, .inr (4, moF a v)), ((a 0), .inl (dA 0, 4, .inl (mn4 wn kn pn lw)))]) (vp_Si (fun r => r = sp_nine lw mi mm)) 0 0 (fun _ => False) := by
  refine ofRo (cc := cX5_nine) (maxL := 4) (ret := (some .int)) (by decide) rfl (fun w h => List.mem_cons_of_mem _ h) (Nat.le_of_ble_eq_true rfl) ?_
  intro p e s m below meth c ls hx hb hr hlocks hml hts hown hP hK hl
  have hown : s.vm.findClass RX5 = some m.cls := hown
  have hl : lv_has ls 4 [(0, .ref m0), (1, .int mi), (2, .int mm)] := hl
  refine lv_iload_n hx hb dX5_nine_0 rfl (lv_at hl 1 rfl) ?_
  refine ro_S (rest := []) (As := [.int mi]) (wc := []) ⟨hx, hb, hml, hown, hts⟩ (met_X5_isMinute mi) (va_cwS 1 hts (lw_S q1231 q1232 q46 q1233) rfl rfl rfl hdS_X5_isMinute ⟨Nat.le_of_ble_eq_true rfl, Nat.le_of_ble_eq_true rfl⟩) hK hP [] rfl rfl hl.1 rfl (Nat.le_of_ble_eq_true rfl) dX5_nine_1 ⟨Nat.zero_le _, Nat.zero_le _⟩ (fun r_1 h_1 => ?_)
  obtain rfl : r_1 = bI (0 ≤ mi ∧ mi ≤ 719) := h_1
  refine lv_if_eq (tgt := 17) hx hb dX5_nine_4 (by decide) (fun c_4 => ?_) (fun c_4 => ?_)
  · skip
    have c_4 := bI_eq0 (P := 0 ≤ mi ∧ mi ≤ 719) rfl c_4
    refine lv_iconst (v := (-1)) hx hb dX5_nine_17 (by decide) ?_
    refine rt_si hx hb hr hlocks dX5_nine_18 ?_
    clear hl hP hK hts hown hml hr hb hx hlocks
    show _ = _
    grind [sp_nine]
  · skip
    have c_4 := bI_ne0 (P := 0 ≤ mi ∧ mi ≤ 719) rfl c_4
    refine lv_iload_n hx hb dX5_nine_7 rfl (lv_at hl 2 rfl) ?_
    refine lv_iconst (v := 1) hx hb dX5_nine_8 (by decide) ?_
    refine lv_bipush (v := 20) hx hb dX5_nine_9 (by decide) ?_
    refine ro_S (rest := []) (As := [.int mm, .int 1, .int 20]) (wc := []) ⟨hx, hb, hml, hown, hts⟩ (met_X5_isIn mm 1 20) (va_cwS 3 hts (lw_S q1234 q1235 q46 q1236) rfl rfl rfl hdS_X5_isIn ⟨Nat.le_of_ble_eq_true rfl, Nat.le_of_ble_eq_true rfl⟩) hK hP [] rfl rfl hl.1 rfl (Nat.le_of_ble_eq_true rfl) dX5_nine_11 ⟨Nat.zero_le _, Nat.zero_le _⟩ (fun r_11 h_11 => ?_)
    obtain rfl : r_11 = bI (1 ≤ mm ∧ mm ≤ 20) := h_11
    refine lv_if_ne (tgt := 19) hx hb dX5_nine_14 (by decide) (fun c_14 => ?_) (fun c_14 => ?_)
    · skip
      have c_14 := bI_ne0 (P := 1 ≤ mm ∧ mm ≤ 20) rfl c_14
      refine lv_iconst (v := 1) hx hb dX5_nine_19 (by decide) ?_
      refine lv_istore_n (lv' := [(3, .int 1), (0, .ref m0), (1, .int mi), (2, .int mm)]) hx hb dX5_nine_20 rfl hl (by decide) rfl (fun ls hl => ?_)
      have K_21 : ∀ (fuel : Nat), ∀ (k : Nat), (1 ≤ k ∧ k ≤ 10) → (10 < k + fuel) → (sp_nl (sp_by lw mi) mm fuel k = sp_nine lw mi mm) → ∀ (ls : Array Slot), lv_has ls 4 [(0, .ref m0), (1, .int mi), (2, .int mm), (3, .int (nI k))] → W p l e ({ frames := 4, cells := 0, slots := 0, locals := 192 } : Room) s m ([.ref m0, .int mi, .int mm] : List Value).toArray below meth c s.heap [] 0 0 (MQ below (vp_Si (fun r => r = sp_nine lw mi mm)) ([.ref m0, .int mi, .int mm] : List Value).toArray s 0 0 (fun _ => False)) (F0 m 21 ls []) := by
        intro fuel
        induction fuel with
        | zero =>
          intro k hk hf hv ls hl
          exact absurd hf (by omega)
        | succ fuel ih_21 =>
          intro k hk hf hv ls hl
          refine lv_iload_n hx hb dX5_nine_21 rfl (lv_at hl 3 rfl) ?_
          refine lv_bipush (v := 10) hx hb dX5_nine_22 (by decide) ?_
          refine lv_icmp_ge (tgt := 53) hx hb dX5_nine_24 (by decide) (fun c_24 => ?_) (fun c_24 => ?_)
          · skip
            have n_c_24 : 10 ≤ k := (nI_leI (a := 10) (b := k) (by omega) (by omega)).mp c_24
            refine lv_bipush (v := (-4)) hx hb dX5_nine_53 (by decide) ?_
            refine rt_si hx hb hr hlocks dX5_nine_55 ?_
            clear hl hP hK hts hown hml hr hb hx hlocks
            show _ = _
            grind [sp_nl]
          · skip
            have n_c_24 : ¬ 10 ≤ k := fun h9 => c_24 ((nI_leI (a := 10) (b := k) (by omega) (by omega)).mpr h9)
            refine lv_aload_n hx hb dX5_nine_27 rfl (lv_at hl 0 rfl) ?_
            refine va_get (D := (dC, dI)) (ci := 4) (v := .ref (a 0)) (C := RX5) (T := TX5) (N := 41) hx hb hts in_X5 hown hK.1 hP 0 rfl rfl 0 (by decide) (hts _ q1092) (fun _ h9 => h9) rfl dX5_nine_28 ?_
            refine lv_iconst (v := 3) hx hb dX5_nine_31 (by decide) ?_
            refine va_iald hx hb hK.1 hP 1 0 rfl rfl (vin (by decide)) dX5_nine_32 ?_
            refine lv_eqi (y := lw) rfl ?_
            refine lv_iload_n hx hb dX5_nine_33 rfl (lv_at hl 1 rfl) ?_
            refine ro_S (rest := []) (As := [.int lw, .int mi]) (wc := []) ⟨hx, hb, hml, hown, hts⟩ (met_X5_priceBy lw mi) (va_cwS 2 hts (lw_S q1237 q1238 q46 q1239) rfl rfl rfl hdS_X5_priceBy ⟨Nat.le_of_ble_eq_true rfl, Nat.le_of_ble_eq_true rfl⟩) hK hP [] rfl rfl hl.1 rfl (Nat.le_of_ble_eq_true rfl) dX5_nine_34 ⟨Nat.zero_le _, Nat.zero_le _⟩ (fun r_34 h_34 => ?_)
            obtain rfl : r_34 = sp_by lw mi := h_34
            refine lv_iload_n hx hb dX5_nine_37 rfl (lv_at hl 3 rfl) ?_
            refine ro_S (rest := []) (As := [.int (sp_by lw mi), .int (nI k)]) (wc := []) ⟨hx, hb, hml, hown, hts⟩ (met_X5_shareOf (sp_by lw mi) (nI k) (nI_ne0 (by omega) (by omega))) (va_cwS 2 hts (lw_S q1343 q1344 q46 q1345) rfl rfl rfl hdS_X5_shareOf ⟨Nat.le_of_ble_eq_true rfl, Nat.le_of_ble_eq_true rfl⟩) hK hP [] rfl rfl hl.1 rfl (Nat.le_of_ble_eq_true rfl) dX5_nine_38 ⟨Nat.zero_le _, Nat.zero_le _⟩ (fun r_38 h_38 => ?_)
            obtain rfl : r_38 = sp_share (sp_by lw mi) (nI k) := h_38
            refine lv_iload_n hx hb dX5_nine_41 rfl (lv_at hl 2 rfl) ?_
            refine lv_icmp_gt (tgt := 47) hx hb dX5_nine_42 (by decide) (fun c_42 => ?_) (fun c_42 => ?_)
            · skip
              refine lv_iinc (v := (nI (k + 1))) (lv' := [(3, .int (nI (k + 1))), (0, .ref m0), (1, .int mi), (2, .int mm)]) hx hb dX5_nine_47 hl (k := 3) rfl (nI_1 k) (by decide) rfl (fun ls hl => ?_)
              refine lv_goto (tgt := 21) hx hb dX5_nine_50 (by decide) ?_
              exact ih_21 (k + 1) (by omega) (by omega) (by clear hl hP hK hts; grind [sp_nl]) ls (lv_sub hl [1, 2, 3, 0] rfl)
            · skip
              refine lv_iload_n hx hb dX5_nine_45 rfl (lv_at hl 3 rfl) ?_
              refine rt_si hx hb hr hlocks dX5_nine_46 ?_
              clear hl hP hK hts hown hml hr hb hx hlocks
              show _ = _
              grind [sp_nl]
      exact K_21 10 1 (by omega) (by omega) (by clear hl hP hK hts; grind [sp_nine]) ls (lv_sub hl [1, 2, 3, 0] rfl)
    · skip
      have c_14 := bI_eq0 (P := 1 ≤ mm ∧ mm ≤ 20) rfl c_14
      refine lv_iconst (v := (-1)) hx hb dX5_nine_17 (by decide) ?_
      refine rt_si hx hb hr hlocks dX5_nine_18 ?_
      clear hl hP hK hts hown hml hr hb hx hlocks
      show _ = _
      grind [sp_nine]
theorem hdS_X5_waits : yX5_waits.cls ≠ "java/lang/invoke/MethodHandle" ∧ yX5_waits.cls ≠ "java/lang/invoke/VarHandle" ∧ (parseMethodDescriptor yX5_waits.desc).map (fun d => d.parameters.length) = some 2 := by decide +kernel
theorem hdV_X5_waits : yX5_waits.cls = RX5 ∧ yX5_waits.cls ≠ "java/lang/invoke/MethodHandle" ∧ yX5_waits.cls ≠ "java/lang/invoke/VarHandle" ∧ (parseMethodDescriptor yX5_waits.desc).map (fun d => d.parameters.length) = some 2 := ⟨rfl, hdS_X5_waits⟩
set_option maxHeartbeats 4000000 in
set_option maxRecDepth 100000 in
theorem met_X5_waits {l : Launch} {dC : Nat → ClassId} {dI : Nat → Nat → Nat} {dA : Nat → ClassId} (m0 : Nat) (a : Nat → Nat) (v : Nat → Int32) (wn : Nat) (kn : Nat) (pn : Nat) (lw : Int32) (mi : Int32) (pr : Int32)  : Met l yX5_waits (ws_ yX5_waits cX5_waits 4 (some .int)) ({ frames := 4, cells := 0, slots := 0, locals := 192 } : Room) (RoP dC dI dA [.ref m0, .int mi, .int pr] [(m0, .inr (4, moF a v)), ((a 0), .inl (dA 0, 4, .inl (mn4 wn kn pn lw)))]) (vp_Si (fun r => r = sp_waits lw mi pr)) 0 0 (fun _ => False) := by
  refine ofRo (cc := cX5_waits) (maxL := 4) (ret := (some .int)) (by decide) rfl (fun w h => List.mem_cons_of_mem _ h) (Nat.le_of_ble_eq_true rfl) ?_
  intro p e s m below meth c ls hx hb hr hlocks hml hts hown hP hK hl
  have hown : s.vm.findClass RX5 = some m.cls := hown
  have hl : lv_has ls 4 [(0, .ref m0), (1, .int mi), (2, .int pr)] := hl
  refine lv_iload_n hx hb dX5_waits_0 rfl (lv_at hl 1 rfl) ?_
  refine ro_S (rest := []) (As := [.int mi]) (wc := []) ⟨hx, hb, hml, hown, hts⟩ (met_X5_isMinute mi) (va_cwS 1 hts (lw_S q1231 q1232 q46 q1233) rfl rfl rfl hdS_X5_isMinute ⟨Nat.le_of_ble_eq_true rfl, Nat.le_of_ble_eq_true rfl⟩) hK hP [] rfl rfl hl.1 rfl (Nat.le_of_ble_eq_true rfl) dX5_waits_1 ⟨Nat.zero_le _, Nat.zero_le _⟩ (fun r_1 h_1 => ?_)
  obtain rfl : r_1 = bI (0 ≤ mi ∧ mi ≤ 719) := h_1
  refine lv_if_eq (tgt := 17) hx hb dX5_waits_4 (by decide) (fun c_4 => ?_) (fun c_4 => ?_)
  · skip
    have c_4 := bI_eq0 (P := 0 ≤ mi ∧ mi ≤ 719) rfl c_4
    refine lv_iconst (v := (-1)) hx hb dX5_waits_17 (by decide) ?_
    refine rt_si hx hb hr hlocks dX5_waits_18 ?_
    clear hl hP hK hts hown hml hr hb hx hlocks
    show _ = _
    grind [sp_waits]
  · skip
    have c_4 := bI_ne0 (P := 0 ≤ mi ∧ mi ≤ 719) rfl c_4
    refine lv_iload_n hx hb dX5_waits_7 rfl (lv_at hl 2 rfl) ?_
    refine lv_iconst (v := 0) hx hb dX5_waits_8 (by decide) ?_
    refine lv_bipush (v := 20) hx hb dX5_waits_9 (by decide) ?_
    refine ro_S (rest := []) (As := [.int pr, .int 0, .int 20]) (wc := []) ⟨hx, hb, hml, hown, hts⟩ (met_X5_isIn pr 0 20) (va_cwS 3 hts (lw_S q1234 q1235 q46 q1236) rfl rfl rfl hdS_X5_isIn ⟨Nat.le_of_ble_eq_true rfl, Nat.le_of_ble_eq_true rfl⟩) hK hP [] rfl rfl hl.1 rfl (Nat.le_of_ble_eq_true rfl) dX5_waits_11 ⟨Nat.zero_le _, Nat.zero_le _⟩ (fun r_11 h_11 => ?_)
    obtain rfl : r_11 = bI (0 ≤ pr ∧ pr ≤ 20) := h_11
    refine lv_if_ne (tgt := 19) hx hb dX5_waits_14 (by decide) (fun c_14 => ?_) (fun c_14 => ?_)
    · skip
      have c_14 := bI_ne0 (P := 0 ≤ pr ∧ pr ≤ 20) rfl c_14
      obtain ⟨j, hj, rfl⟩ := ix_lit 720 (by decide) (by decide) c_4
      refine lv_iload_n hx hb dX5_waits_19 rfl (lv_at hl 1 rfl) ?_
      refine lv_istore_n (lv' := [(3, .int (nI j)), (0, .ref m0), (1, .int (nI j)), (2, .int pr)]) hx hb dX5_waits_20 rfl hl (by decide) rfl (fun ls hl => ?_)
      have K_21 : ∀ (fuel : Nat), ∀ (k : Nat), (k ≤ 720) → (720 < k + fuel) → (sp_wl lw pr j fuel k = sp_waits lw (nI j) pr) → ∀ (ls : Array Slot), lv_has ls 4 [(0, .ref m0), (1, .int (nI j)), (2, .int pr), (3, .int (nI k))] → W p l e ({ frames := 4, cells := 0, slots := 0, locals := 192 } : Room) s m ([.ref m0, .int (nI j), .int pr] : List Value).toArray below meth c s.heap [] 0 0 (MQ below (vp_Si (fun r => r = sp_waits lw (nI j) pr)) ([.ref m0, .int (nI j), .int pr] : List Value).toArray s 0 0 (fun _ => False)) (F0 m 21 ls []) := by
        intro fuel
        induction fuel with
        | zero =>
          intro k hk hf hv ls hl
          exact absurd hf (by omega)
        | succ fuel ih_21 =>
          intro k hk hf hv ls hl
          refine lv_iload_n hx hb dX5_waits_21 rfl (lv_at hl 3 rfl) ?_
          refine lv_sipush (v := 719) hx hb dX5_waits_22 (by decide) ?_
          refine lv_icmp_gt (tgt := 52) hx hb dX5_waits_25 (by decide) (fun c_25 => ?_) (fun c_25 => ?_)
          · skip
            have n_c_25 : 719 < k := (nI_ltI (a := 719) (b := k) (by omega) (by omega)).mp c_25
            refine lv_bipush (v := (-4)) hx hb dX5_waits_52 (by decide) ?_
            refine rt_si hx hb hr hlocks dX5_waits_54 ?_
            clear hl hP hK hts hown hml hr hb hx hlocks
            show _ = _
            grind [sp_wl]
          · skip
            have n_c_25 : ¬ 719 < k := fun h9 => c_25 ((nI_ltI (a := 719) (b := k) (by omega) (by omega)).mpr h9)
            refine lv_aload_n hx hb dX5_waits_28 rfl (lv_at hl 0 rfl) ?_
            refine va_get (D := (dC, dI)) (ci := 4) (v := .ref (a 0)) (C := RX5) (T := TX5) (N := 41) hx hb hts in_X5 hown hK.1 hP 0 rfl rfl 0 (by decide) (hts _ q1092) (fun _ h9 => h9) rfl dX5_waits_29 ?_
            refine lv_iconst (v := 3) hx hb dX5_waits_32 (by decide) ?_
            refine va_iald hx hb hK.1 hP 1 0 rfl rfl (vin (by decide)) dX5_waits_33 ?_
            refine lv_eqi (y := lw) rfl ?_
            refine lv_iload_n hx hb dX5_waits_34 rfl (lv_at hl 3 rfl) ?_
            refine ro_S (rest := []) (As := [.int lw, .int (nI k)]) (wc := []) ⟨hx, hb, hml, hown, hts⟩ (met_X5_priceBy lw (nI k)) (va_cwS 2 hts (lw_S q1237 q1238 q46 q1239) rfl rfl rfl hdS_X5_priceBy ⟨Nat.le_of_ble_eq_true rfl, Nat.le_of_ble_eq_true rfl⟩) hK hP [] rfl rfl hl.1 rfl (Nat.le_of_ble_eq_true rfl) dX5_waits_35 ⟨Nat.zero_le _, Nat.zero_le _⟩ (fun r_35 h_35 => ?_)
            obtain rfl : r_35 = sp_by lw (nI k) := h_35
            refine lv_iload_n hx hb dX5_waits_38 rfl (lv_at hl 2 rfl) ?_
            refine lv_icmp_gt (tgt := 46) hx hb dX5_waits_39 (by decide) (fun c_39 => ?_) (fun c_39 => ?_)
            · skip
              refine lv_iinc (v := (nI (k + 1))) (lv' := [(3, .int (nI (k + 1))), (0, .ref m0), (1, .int (nI j)), (2, .int pr)]) hx hb dX5_waits_46 hl (k := 3) rfl (nI_1 k) (by decide) rfl (fun ls hl => ?_)
              refine lv_goto (tgt := 21) hx hb dX5_waits_49 (by decide) ?_
              exact ih_21 (k + 1) (by omega) (by omega) (by clear hl hP hK hts; grind [sp_wl]) ls (lv_sub hl [1, 2, 3, 0] rfl)
            · skip
              refine lv_iload_n hx hb dX5_waits_42 rfl (lv_at hl 3 rfl) ?_
              refine lv_iload_n hx hb dX5_waits_43 rfl (lv_at hl 1 rfl) ?_
              refine lv_isub hx hb dX5_waits_44 ?_
              refine rt_si hx hb hr hlocks dX5_waits_45 ?_
              clear hl hP hK hts hown hml hr hb hx hlocks
              show _ = _
              grind [sp_wl]
      exact K_21 721 j (by omega) (by omega) (by rw [sp_waits, if_pos c_4, if_pos c_14, nI_clamp (by omega)]) ls (lv_sub hl [1, 2, 3, 0] rfl)
    · skip
      have c_14 := bI_eq0 (P := 0 ≤ pr ∧ pr ≤ 20) rfl c_14
      refine lv_iconst (v := (-1)) hx hb dX5_waits_17 (by decide) ?_
      refine rt_si hx hb hr hlocks dX5_waits_18 ?_
      clear hl hP hK hts hown hml hr hb hx hlocks
      show _ = _
      grind [sp_waits]
theorem hdS_X5_rest : yX5_rest.cls ≠ "java/lang/invoke/MethodHandle" ∧ yX5_rest.cls ≠ "java/lang/invoke/VarHandle" ∧ (parseMethodDescriptor yX5_rest.desc).map (fun d => d.parameters.length) = some 3 := by decide +kernel
theorem hdV_X5_rest : yX5_rest.cls = RX5 ∧ yX5_rest.cls ≠ "java/lang/invoke/MethodHandle" ∧ yX5_rest.cls ≠ "java/lang/invoke/VarHandle" ∧ (parseMethodDescriptor yX5_rest.desc).map (fun d => d.parameters.length) = some 3 := ⟨rfl, hdS_X5_rest⟩
set_option maxHeartbeats 4000000 in
set_option maxRecDepth 100000 in
theorem met_X5_rest {l : Launch} {dC : Nat → ClassId} {dI : Nat → Nat → Nat} {dA : Nat → ClassId} (m0 : Nat) (a : Nat → Nat) (v : Nat → Int32) (wn : Nat) (kn : Nat) (pn : Nat) (lw : Int32) (mi : Int32) (w : Int32) (c0 : Int32)  : Met l yX5_rest (ws_ yX5_rest cX5_rest 6 (some .int)) ({ frames := 4, cells := 0, slots := 0, locals := 192 } : Room) (RoP dC dI dA [.ref m0, .int mi, .int w, .int c0] [(m0, .inr (4, moF a v)), ((a 0), .inl (dA 0, 4, .inl (mn4 wn kn pn lw)))]) (vp_Si (fun r => r = sp_rest lw mi w c0)) 0 0 (fun _ => False) := by
  refine ofRo (cc := cX5_rest) (maxL := 6) (ret := (some .int)) (by decide) rfl (fun w h => List.mem_cons_of_mem _ h) (Nat.le_of_ble_eq_true rfl) ?_
  intro p e s m below meth c ls hx hb hr hlocks hml hts hown hP hK hl
  have hown : s.vm.findClass RX5 = some m.cls := hown
  have hl : lv_has ls 6 [(0, .ref m0), (1, .int mi), (2, .int w), (3, .int c0)] := hl
  refine lv_iload_n hx hb dX5_rest_0 rfl (lv_at hl 1 rfl) ?_
  refine ro_S (rest := []) (As := [.int mi]) (wc := []) ⟨hx, hb, hml, hown, hts⟩ (met_X5_isMinute mi) (va_cwS 1 hts (lw_S q1231 q1232 q46 q1233) rfl rfl rfl hdS_X5_isMinute ⟨Nat.le_of_ble_eq_true rfl, Nat.le_of_ble_eq_true rfl⟩) hK hP [] rfl rfl hl.1 rfl (Nat.le_of_ble_eq_true rfl) dX5_rest_1 ⟨Nat.zero_le _, Nat.zero_le _⟩ (fun r_1 h_1 => ?_)
  obtain rfl : r_1 = bI (0 ≤ mi ∧ mi ≤ 719) := h_1
  refine lv_if_eq (tgt := 27) hx hb dX5_rest_4 (by decide) (fun c_4 => ?_) (fun c_4 => ?_)
  · skip
    have c_4 := bI_eq0 (P := 0 ≤ mi ∧ mi ≤ 719) rfl c_4
    refine lv_iconst (v := (-1)) hx hb dX5_rest_27 (by decide) ?_
    refine rt_si hx hb hr hlocks dX5_rest_28 ?_
    clear hl hP hK hts hown hml hr hb hx hlocks
    show _ = _
    grind [sp_rest]
  · skip
    have c_4 := bI_ne0 (P := 0 ≤ mi ∧ mi ≤ 719) rfl c_4
    refine lv_iload_n hx hb dX5_rest_7 rfl (lv_at hl 2 rfl) ?_
    refine lv_iconst (v := 0) hx hb dX5_rest_8 (by decide) ?_
    refine lv_bipush (v := 60) hx hb dX5_rest_9 (by decide) ?_
    refine ro_S (rest := []) (As := [.int w, .int 0, .int 60]) (wc := []) ⟨hx, hb, hml, hown, hts⟩ (met_X5_isIn w 0 60) (va_cwS 3 hts (lw_S q1234 q1235 q46 q1236) rfl rfl rfl hdS_X5_isIn ⟨Nat.le_of_ble_eq_true rfl, Nat.le_of_ble_eq_true rfl⟩) hK hP [] rfl rfl hl.1 rfl (Nat.le_of_ble_eq_true rfl) dX5_rest_11 ⟨Nat.zero_le _, Nat.zero_le _⟩ (fun r_11 h_11 => ?_)
    obtain rfl : r_11 = bI (0 ≤ w ∧ w ≤ 60) := h_11
    refine lv_if_eq (tgt := 27) hx hb dX5_rest_14 (by decide) (fun c_14 => ?_) (fun c_14 => ?_)
    · skip
      have c_14 := bI_eq0 (P := 0 ≤ w ∧ w ≤ 60) rfl c_14
      refine lv_iconst (v := (-1)) hx hb dX5_rest_27 (by decide) ?_
      refine rt_si hx hb hr hlocks dX5_rest_28 ?_
      clear hl hP hK hts hown hml hr hb hx hlocks
      show _ = _
      grind [sp_rest]
    · skip
      have c_14 := bI_ne0 (P := 0 ≤ w ∧ w ≤ 60) rfl c_14
      refine lv_iload_n hx hb dX5_rest_17 rfl (lv_at hl 3 rfl) ?_
      refine lv_iconst (v := 0) hx hb dX5_rest_18 (by decide) ?_
      refine lv_bipush (v := 9) hx hb dX5_rest_19 (by decide) ?_
      refine ro_S (rest := []) (As := [.int c0, .int 0, .int 9]) (wc := []) ⟨hx, hb, hml, hown, hts⟩ (met_X5_isIn c0 0 9) (va_cwS 3 hts (lw_S q1234 q1235 q46 q1236) rfl rfl rfl hdS_X5_isIn ⟨Nat.le_of_ble_eq_true rfl, Nat.le_of_ble_eq_true rfl⟩) hK hP [] rfl rfl hl.1 rfl (Nat.le_of_ble_eq_true rfl) dX5_rest_21 ⟨Nat.zero_le _, Nat.zero_le _⟩ (fun r_21 h_21 => ?_)
      obtain rfl : r_21 = bI (0 ≤ c0 ∧ c0 ≤ 9) := h_21
      refine lv_if_ne (tgt := 29) hx hb dX5_rest_24 (by decide) (fun c_24 => ?_) (fun c_24 => ?_)
      · skip
        have c_24 := bI_ne0 (P := 0 ≤ c0 ∧ c0 ≤ 9) rfl c_24
        refine lv_bipush (v := (-4)) hx hb dX5_rest_29 (by decide) ?_
        refine lv_istore (lv' := [(4, .int (-4)), (0, .ref m0), (1, .int mi), (2, .int w), (3, .int c0)]) hx hb dX5_rest_31 hl (by decide) rfl (fun ls hl => ?_)
        refine lv_iconst (v := 0) hx hb dX5_rest_33 (by decide) ?_
        refine lv_istore (lv' := [(5, .int 0), (4, .int (-4)), (0, .ref m0), (1, .int mi), (2, .int w), (3, .int c0)]) hx hb dX5_rest_34 hl (by decide) rfl (fun ls hl => ?_)
        have K_36 : ∀ (fuel : Nat), ∀ (x : Int32) (k : Nat), (k ≤ 13) → (13 < k + fuel) → (x = sp_rl lw mi w c0 k) → ∀ (ls : Array Slot), lv_has ls 6 [(0, .ref m0), (1, .int mi), (2, .int w), (3, .int c0), (4, .int x), (5, .int (nI k))] → W p l e ({ frames := 4, cells := 0, slots := 0, locals := 192 } : Room) s m ([.ref m0, .int mi, .int w, .int c0] : List Value).toArray below meth c s.heap [] 0 0 (MQ below (vp_Si (fun r => r = sp_rest lw mi w c0)) ([.ref m0, .int mi, .int w, .int c0] : List Value).toArray s 0 0 (fun _ => False)) (F0 m 36 ls []) := by
          intro fuel
          induction fuel with
          | zero =>
            intro x k hk hf hx9 ls hl
            exact absurd hf (by omega)
          | succ fuel ih_36 =>
            intro x k hk hf hx9 ls hl
            refine lv_iload hx hb dX5_rest_36 (lv_at hl 5 rfl) ?_
            refine lv_bipush (v := 13) hx hb dX5_rest_38 (by decide) ?_
            refine lv_icmp_ge (tgt := 70) hx hb dX5_rest_40 (by decide) (fun c_40 => ?_) (fun c_40 => ?_)
            · skip
              have n_c_40 : 13 ≤ k := (nI_leI (a := 13) (b := k) (by omega) (by omega)).mp c_40
              refine lv_iload hx hb dX5_rest_70 (lv_at hl 4 rfl) ?_
              refine rt_si hx hb hr hlocks dX5_rest_72 ?_
              obtain rfl : k = 13 := by omega
              clear hl hP hK hts hown hml hr hb hx hlocks
              show _ = _
              grind [sp_rest]
            · skip
              have n_c_40 : ¬ 13 ≤ k := fun h9 => c_40 ((nI_leI (a := 13) (b := k) (by omega) (by omega)).mpr h9)
              refine lv_aload_n hx hb dX5_rest_43 rfl (lv_at hl 0 rfl) ?_
              refine lv_iload_n hx hb dX5_rest_44 rfl (lv_at hl 1 rfl) ?_
              refine lv_iload_n hx hb dX5_rest_45 rfl (lv_at hl 2 rfl) ?_
              refine lv_iload hx hb dX5_rest_46 (lv_at hl 5 rfl) ?_
              refine lv_iload_n hx hb dX5_rest_48 rfl (lv_at hl 3 rfl) ?_
              refine ro_V (rest := []) (As := [.int mi, .int w, .int (nI k), .int c0]) (wc := [(m0, .inr (4, moF a v)), ((a 0), .inl (dA 0, 4, .inl (mn4 wn kn pn lw)))]) ⟨hx, hb, hml, hown, hts⟩ (met_X5_isSold m0 a v wn kn pn lw mi w (nI k) c0) (cwV 4 hts (lw_V q1354 q1356 qs30 q46 q1357) rfl rfl rfl hdV_X5_isSold ⟨Nat.le_of_ble_eq_true rfl, Nat.le_of_ble_eq_true rfl⟩) hK hP [0, 1] rfl (va_recv hK.1 hP (ci := 4) (q0 := 0) rfl rfl) rfl hl.1 rfl (Nat.le_of_ble_eq_true rfl) dX5_rest_49 ⟨Nat.zero_le _, Nat.zero_le _⟩ (fun r_49 h_49 => ?_)
              obtain rfl : r_49 = bI ((nI k) + w * c0 < sp_by lw mi) := h_49
              refine lv_if_eq (tgt := 60) hx hb dX5_rest_52 (by decide) (fun c_52 => ?_) (fun c_52 => ?_)
              · skip
                have c_52 := bI_eq0 (P := (nI k) + w * c0 < sp_by lw mi) rfl c_52
                refine lv_iload hx hb dX5_rest_60 (lv_at hl 4 rfl) ?_
                refine lv_istore (lv' := [(4, .int x), (0, .ref m0), (1, .int mi), (2, .int w), (3, .int c0), (5, .int (nI k))]) hx hb dX5_rest_62 hl (by decide) rfl (fun ls hl => ?_)
                refine lv_iinc (v := (nI (k + 1))) (lv' := [(5, .int (nI (k + 1))), (4, .int x), (0, .ref m0), (1, .int mi), (2, .int w), (3, .int c0)]) hx hb dX5_rest_64 hl (k := 5) rfl (nI_1 k) (by decide) rfl (fun ls hl => ?_)
                refine lv_goto (tgt := 36) hx hb dX5_rest_67 (by decide) ?_
                exact ih_36 x (k + 1) (by omega) (by omega) (by rw [sp_rl]; first | rw [if_pos c_52] | rw [if_neg c_52, hx9]) ls (lv_sub hl [2, 3, 4, 5, 1, 0] rfl)
              · skip
                have c_52 := bI_ne0 (P := (nI k) + w * c0 < sp_by lw mi) rfl c_52
                refine lv_iload hx hb dX5_rest_55 (lv_at hl 5 rfl) ?_
                refine lv_goto (tgt := 62) hx hb dX5_rest_57 (by decide) ?_
                refine lv_istore (lv' := [(4, .int (nI k)), (0, .ref m0), (1, .int mi), (2, .int w), (3, .int c0), (5, .int (nI k))]) hx hb dX5_rest_62 hl (by decide) rfl (fun ls hl => ?_)
                refine lv_iinc (v := (nI (k + 1))) (lv' := [(5, .int (nI (k + 1))), (4, .int (nI k)), (0, .ref m0), (1, .int mi), (2, .int w), (3, .int c0)]) hx hb dX5_rest_64 hl (k := 5) rfl (nI_1 k) (by decide) rfl (fun ls hl => ?_)
                refine lv_goto (tgt := 36) hx hb dX5_rest_67 (by decide) ?_
                exact ih_36 (nI k) (k + 1) (by omega) (by omega) (by rw [sp_rl]; first | rw [if_pos c_52] | rw [if_neg c_52, hx9]) ls (lv_sub hl [2, 3, 4, 5, 1, 0] rfl)
        exact K_36 14 (-4) 0 (by omega) (by omega) rfl ls (lv_sub hl [2, 3, 4, 5, 1, 0] rfl)
      · skip
        have c_24 := bI_eq0 (P := 0 ≤ c0 ∧ c0 ≤ 9) rfl c_24
        refine lv_iconst (v := (-1)) hx hb dX5_rest_27 (by decide) ?_
        refine rt_si hx hb hr hlocks dX5_rest_28 ?_
        clear hl hP hK hts hown hml hr hb hx hlocks
        show _ = _
        grind [sp_rest]
theorem hdS_X5_otherCheaper : yX5_otherCheaper.cls ≠ "java/lang/invoke/MethodHandle" ∧ yX5_otherCheaper.cls ≠ "java/lang/invoke/VarHandle" ∧ (parseMethodDescriptor yX5_otherCheaper.desc).map (fun d => d.parameters.length) = some 0 := by decide +kernel
theorem hdV_X5_otherCheaper : yX5_otherCheaper.cls = RX5 ∧ yX5_otherCheaper.cls ≠ "java/lang/invoke/MethodHandle" ∧ yX5_otherCheaper.cls ≠ "java/lang/invoke/VarHandle" ∧ (parseMethodDescriptor yX5_otherCheaper.desc).map (fun d => d.parameters.length) = some 0 := ⟨rfl, hdS_X5_otherCheaper⟩
set_option maxHeartbeats 4000000 in
set_option maxRecDepth 100000 in
theorem met_X5_otherCheaper {l : Launch} {dC : Nat → ClassId} {dI : Nat → Nat → Nat} {dA : Nat → ClassId} (m0 : Nat) (a : Nat → Nat) (v : Nat → Int32) (wn : Nat) (kn : Nat) (pn : Nat) (lw : Int32)  : Met l yX5_otherCheaper (ws_ yX5_otherCheaper cX5_otherCheaper 3 (some .int)) ({ frames := 4, cells := 0, slots := 0, locals := 192 } : Room) (RoP dC dI dA [.ref m0] [(m0, .inr (4, moF a v)), ((a 0), .inl (dA 0, 4, .inl (mn4 wn kn pn lw)))]) (vp_Si (fun r => r = sp_oc lw 720)) 0 0 (fun _ => False) := by
  refine ofRo (cc := cX5_otherCheaper) (maxL := 3) (ret := (some .int)) (by decide) rfl (fun w h => List.mem_cons_of_mem _ h) (Nat.le_of_ble_eq_true rfl) ?_
  intro p e s m below meth c ls hx hb hr hlocks hml hts hown hP hK hl
  have hown : s.vm.findClass RX5 = some m.cls := hown
  have hl : lv_has ls 3 [(0, .ref m0)] := hl
  refine lv_iconst (v := 0) hx hb dX5_otherCheaper_0 (by decide) ?_
  refine lv_istore_n (lv' := [(1, .int 0), (0, .ref m0)]) hx hb dX5_otherCheaper_1 rfl hl (by decide) rfl (fun ls hl => ?_)
  refine lv_iconst (v := 0) hx hb dX5_otherCheaper_2 (by decide) ?_
  refine lv_istore_n (lv' := [(2, .int 0), (1, .int 0), (0, .ref m0)]) hx hb dX5_otherCheaper_3 rfl hl (by decide) rfl (fun ls hl => ?_)
  have K_4 : ∀ (fuel : Nat), ∀ (x : Int32) (k : Nat), (k ≤ 720) → (720 < k + fuel) → (x = sp_oc lw k) → ∀ (ls : Array Slot), lv_has ls 3 [(0, .ref m0), (1, .int x), (2, .int (nI k))] → W p l e ({ frames := 4, cells := 0, slots := 0, locals := 192 } : Room) s m ([.ref m0] : List Value).toArray below meth c s.heap [] 0 0 (MQ below (vp_Si (fun r => r = sp_oc lw 720)) ([.ref m0] : List Value).toArray s 0 0 (fun _ => False)) (F0 m 4 ls []) := by
    intro fuel
    induction fuel with
    | zero =>
      intro x k hk hf hx9 ls hl
      exact absurd hf (by omega)
    | succ fuel ih_4 =>
      intro x k hk hf hx9 ls hl
      refine lv_iload_n hx hb dX5_otherCheaper_4 rfl (lv_at hl 2 rfl) ?_
      refine lv_sipush (v := 719) hx hb dX5_otherCheaper_5 (by decide) ?_
      refine lv_icmp_gt (tgt := 43) hx hb dX5_otherCheaper_8 (by decide) (fun c_8 => ?_) (fun c_8 => ?_)
      · skip
        have n_c_8 : 719 < k := (nI_ltI (a := 719) (b := k) (by omega) (by omega)).mp c_8
        refine lv_iload_n hx hb dX5_otherCheaper_43 rfl (lv_at hl 1 rfl) ?_
        refine rt_si hx hb hr hlocks dX5_otherCheaper_44 ?_
        obtain rfl : k = 720 := by omega
        exact hx9
      · skip
        have n_c_8 : ¬ 719 < k := fun h9 => c_8 ((nI_ltI (a := 719) (b := k) (by omega) (by omega)).mpr h9)
        refine lv_iload_n hx hb dX5_otherCheaper_11 rfl (lv_at hl 1 rfl) ?_
        refine lv_aload_n hx hb dX5_otherCheaper_12 rfl (lv_at hl 0 rfl) ?_
        refine lv_iload_n hx hb dX5_otherCheaper_13 rfl (lv_at hl 2 rfl) ?_
        refine ro_V (rest := [.int x]) (As := [.int (nI k)]) (wc := [(m0, .inr (4, moF a v)), ((a 0), .inl (dA 0, 4, .inl (mn4 wn kn pn lw)))]) ⟨hx, hb, hml, hown, hts⟩ (met_X5_otherPrice m0 a v wn kn pn lw (nI k)) (cwV 1 hts (lw_V q1366 q1368 qs31 q46 q1369) rfl rfl rfl hdV_X5_otherPrice ⟨Nat.le_of_ble_eq_true rfl, Nat.le_of_ble_eq_true rfl⟩) hK hP [0, 1] rfl (va_recv hK.1 hP (ci := 4) (q0 := 0) rfl rfl) rfl hl.1 rfl (Nat.le_of_ble_eq_true rfl) dX5_otherCheaper_14 ⟨Nat.zero_le _, Nat.zero_le _⟩ (fun r_14 h_14 => ?_)
        obtain rfl : r_14 = sp_other lw (nI k) := h_14
        refine lv_aload_n hx hb dX5_otherCheaper_17 rfl (lv_at hl 0 rfl) ?_
        refine va_get (D := (dC, dI)) (ci := 4) (v := .ref (a 0)) (C := RX5) (T := TX5) (N := 41) hx hb hts in_X5 hown hK.1 hP 0 rfl rfl 0 (by decide) (hts _ q1092) (fun _ h9 => h9) rfl dX5_otherCheaper_18 ?_
        refine lv_iconst (v := 3) hx hb dX5_otherCheaper_21 (by decide) ?_
        refine va_iald hx hb hK.1 hP 1 0 rfl rfl (vin (by decide)) dX5_otherCheaper_22 ?_
        refine lv_eqi (y := lw) rfl ?_
        refine lv_iload_n hx hb dX5_otherCheaper_23 rfl (lv_at hl 2 rfl) ?_
        refine ro_S (rest := [.int (sp_other lw (nI k)), .int x]) (As := [.int lw, .int (nI k)]) (wc := []) ⟨hx, hb, hml, hown, hts⟩ (met_X5_priceBy lw (nI k)) (va_cwS 2 hts (lw_S q1237 q1238 q46 q1239) rfl rfl rfl hdS_X5_priceBy ⟨Nat.le_of_ble_eq_true rfl, Nat.le_of_ble_eq_true rfl⟩) hK hP [] rfl rfl hl.1 rfl (Nat.le_of_ble_eq_true rfl) dX5_otherCheaper_24 ⟨Nat.zero_le _, Nat.zero_le _⟩ (fun r_24 h_24 => ?_)
        obtain rfl : r_24 = sp_by lw (nI k) := h_24
        refine lv_icmp_ge (tgt := 34) hx hb dX5_otherCheaper_27 (by decide) (fun c_27 => ?_) (fun c_27 => ?_)
        · skip
          refine lv_iconst (v := 0) hx hb dX5_otherCheaper_34 (by decide) ?_
          refine lv_iadd hx hb dX5_otherCheaper_35 ?_
          refine lv_istore_n (lv' := [(1, .int (x + 0)), (0, .ref m0), (2, .int (nI k))]) hx hb dX5_otherCheaper_36 rfl hl (by decide) rfl (fun ls hl => ?_)
          refine lv_iinc (v := (nI (k + 1))) (lv' := [(2, .int (nI (k + 1))), (1, .int (x + 0)), (0, .ref m0)]) hx hb dX5_otherCheaper_37 hl (k := 2) rfl (nI_1 k) (by decide) rfl (fun ls hl => ?_)
          refine lv_goto (tgt := 4) hx hb dX5_otherCheaper_40 (by decide) ?_
          exact ih_4 (x + 0) (k + 1) (by omega) (by omega) (by rw [sp_oc, hx9]; first | rw [if_neg (Int32.not_lt.mpr c_27)] | rw [if_pos (Int32.not_le.mp c_27)]) ls (lv_sub hl [2, 1, 0] rfl)
        · skip
          refine lv_iconst (v := 1) hx hb dX5_otherCheaper_30 (by decide) ?_
          refine lv_goto (tgt := 35) hx hb dX5_otherCheaper_31 (by decide) ?_
          refine lv_iadd hx hb dX5_otherCheaper_35 ?_
          refine lv_istore_n (lv' := [(1, .int (x + 1)), (0, .ref m0), (2, .int (nI k))]) hx hb dX5_otherCheaper_36 rfl hl (by decide) rfl (fun ls hl => ?_)
          refine lv_iinc (v := (nI (k + 1))) (lv' := [(2, .int (nI (k + 1))), (1, .int (x + 1)), (0, .ref m0)]) hx hb dX5_otherCheaper_37 hl (k := 2) rfl (nI_1 k) (by decide) rfl (fun ls hl => ?_)
          refine lv_goto (tgt := 4) hx hb dX5_otherCheaper_40 (by decide) ?_
          exact ih_4 (x + 1) (k + 1) (by omega) (by omega) (by rw [sp_oc, hx9]; first | rw [if_neg (Int32.not_lt.mpr c_27)] | rw [if_pos (Int32.not_le.mp c_27)]) ls (lv_sub hl [2, 1, 0] rfl)
  exact K_4 721 0 0 (by omega) (by omega) rfl ls (lv_sub hl [2, 1, 0] rfl)
theorem hdS_X5_thrown : yX5_thrown.cls ≠ "java/lang/invoke/MethodHandle" ∧ yX5_thrown.cls ≠ "java/lang/invoke/VarHandle" ∧ (parseMethodDescriptor yX5_thrown.desc).map (fun d => d.parameters.length) = some 0 := by decide +kernel
theorem hdV_X5_thrown : yX5_thrown.cls = RX5 ∧ yX5_thrown.cls ≠ "java/lang/invoke/MethodHandle" ∧ yX5_thrown.cls ≠ "java/lang/invoke/VarHandle" ∧ (parseMethodDescriptor yX5_thrown.desc).map (fun d => d.parameters.length) = some 0 := ⟨rfl, hdS_X5_thrown⟩
set_option maxHeartbeats 4000000 in
set_option maxRecDepth 100000 in
theorem met_X5_thrown {l : Launch} {dC : Nat → ClassId} {dI : Nat → Nat → Nat} {dA : Nat → ClassId} (m0 : Nat) (a : Nat → Nat) (v : Nat → Int32)  : Met l yX5_thrown (ws_ yX5_thrown cX5_thrown 1 (some .int)) ({ frames := 2, cells := 0, slots := 0, locals := 64 } : Room) (RoP dC dI dA [.ref m0] [(m0, .inr (4, moF a v))]) (vp_Si (fun r => r = (v 40))) 0 0 (fun _ => False) := by
  refine ofRo (cc := cX5_thrown) (maxL := 1) (ret := (some .int)) (by decide) rfl (fun w h => List.mem_cons_of_mem _ h) (Nat.le_of_ble_eq_true rfl) ?_
  intro p e s m below meth c ls hx hb hr hlocks hml hts hown hP hK hl
  have hown : s.vm.findClass RX5 = some m.cls := hown
  have hl : lv_has ls 1 [(0, .ref m0)] := hl
  refine lv_aload_n hx hb dX5_thrown_0 rfl (lv_at hl 0 rfl) ?_
  refine va_get (D := (dC, dI)) (ci := 4) (v := .int (v 40)) (C := RX5) (T := TX5) (N := 41) hx hb hts in_X5 hown hK.1 hP 0 rfl rfl 40 (by decide) (hts _ q1132) (fun _ h9 => h9) rfl dX5_thrown_1 ?_
  refine rt_si hx hb hr hlocks dX5_thrown_4 ?_
  rfl
