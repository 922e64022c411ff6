/-! BASE: the classes whose objects worlds hold, the arrays' classes, the words that no list carries, the short forms of contracts -/
set_option maxRecDepth 100000
abbrev vwCl : List vw_C := [(RX1, TX1, 6), (RX2, TX2, 9), (RX3, TX3, 15), (RX4, TX4, 1), (RX5, TX5, 41), (RX6, TX6, 6), (RX7, TX7, 8), (RX16, TX16, 7), (RX8, TX8, 4), (RX9, TX9, 4), (RX10, TX10, 4), (RX11, TX11, 4), (RX12, TX12, 6), (RX13, TX13, 4), (RX14, TX14, 4), (RX15, TX15, 4)]
abbrev tys7 (dA : Nat → ClassId) : List (ClassId × FieldType) := [(dA 0, .int), (dA 1, .byte), (dA 2, .short), (dA 3, .object "LookAtClock$Looker"), (dA 4, .object "LookAtClock$Shelf"), (dA 5, .long), (dA 6, .array .int)]
def nestL : List (String × Nat × MethodName × String) := [("LookAtClock", 274, ⟨"LookAtClock$Town", "<init>", "()V"⟩, "LookAtClock"), ("LookAtClock", 275, ⟨"LookAtClock$Day", "<init>", "()V"⟩, "LookAtClock"), ("LookAtClock", 276, ⟨"LookAtClock$Shelf", "<init>", "()V"⟩, "LookAtClock"), ("LookAtClock$Best", 11, ⟨"LookAtClock$Day", "<init>", "()V"⟩, "LookAtClock"), ("LookAtClock$Day", 35, ⟨"LookAtClock", "thought", "(III)I"⟩, "LookAtClock"), ("LookAtClock$Day", 25, ⟨"LookAtClock", "priceBy", "(II)I"⟩, "LookAtClock"), ("LookAtClock$Reader", 44, ⟨"LookAtClock", "isIn", "(III)Z"⟩, "LookAtClock")]
def castL : List (String × String) := [("java/lang/IllegalArgumentException", "java/lang/IllegalArgumentException"), ("java/lang/IllegalStateException", "java/lang/IllegalStateException"), ("java/lang/RuntimeException", "java/lang/Throwable"), ("java/lang/NegativeArraySizeException", "java/lang/NegativeArraySizeException"), ("java/lang/ClassCastException", "java/lang/ClassCastException"), ("java/lang/ArrayIndexOutOfBoundsException", "java/lang/ArrayIndexOutOfBoundsException"), ("java/lang/ArrayIndexOutOfBoundsException", "java/lang/IndexOutOfBoundsException"), ("java/lang/NullPointerException", "java/lang/NullPointerException"), ("LookAtClock$Watcher", "LookAtClock$Looker"), ("LookAtClock$Cheap", "LookAtClock$Looker"), ("LookAtClock$Best", "LookAtClock$Looker"), ("LookAtClock$Share", "LookAtClock$Looker"), ("LookAtClock$Told", "LookAtClock$Looker"), ("LookAtClock$Seller", "LookAtClock$Looker"), ("LookAtClock$Tossed", "LookAtClock$Tossed"), ("LookAtClock$Broken", "LookAtClock$Broken"), ("LookAtClock$Never", "LookAtClock$Looker")]
def nocastL : List (String × String) := [("java/lang/NegativeArraySizeException", "LookAtClock$Broken"), ("java/lang/ClassCastException", "LookAtClock$Broken"), ("java/lang/ArrayIndexOutOfBoundsException", "LookAtClock$Broken"), ("java/lang/NullPointerException", "LookAtClock$Broken"), ("java/lang/IllegalArgumentException", "LookAtClock$Broken"), ("java/lang/IllegalStateException", "LookAtClock$Broken"), ("LookAtClock$Tossed", "LookAtClock$Broken"), ("LookAtClock$Broken", "java/lang/NegativeArraySizeException"), ("java/lang/ClassCastException", "java/lang/NegativeArraySizeException"), ("java/lang/ArrayIndexOutOfBoundsException", "java/lang/NegativeArraySizeException"), ("java/lang/NullPointerException", "java/lang/NegativeArraySizeException"), ("java/lang/IllegalArgumentException", "java/lang/NegativeArraySizeException"), ("java/lang/IllegalStateException", "java/lang/NegativeArraySizeException"), ("LookAtClock$Tossed", "java/lang/NegativeArraySizeException"), ("LookAtClock$Broken", "java/lang/ClassCastException"), ("java/lang/NegativeArraySizeException", "java/lang/ClassCastException"), ("java/lang/ArrayIndexOutOfBoundsException", "java/lang/ClassCastException"), ("java/lang/NullPointerException", "java/lang/ClassCastException"), ("java/lang/IllegalArgumentException", "java/lang/ClassCastException"), ("java/lang/IllegalStateException", "java/lang/ClassCastException"), ("LookAtClock$Tossed", "java/lang/ClassCastException"), ("LookAtClock$Broken", "java/lang/ArrayIndexOutOfBoundsException"), ("java/lang/NegativeArraySizeException", "java/lang/ArrayIndexOutOfBoundsException"), ("java/lang/ClassCastException", "java/lang/ArrayIndexOutOfBoundsException"), ("java/lang/NullPointerException", "java/lang/ArrayIndexOutOfBoundsException"), ("java/lang/IllegalArgumentException", "java/lang/ArrayIndexOutOfBoundsException"), ("java/lang/IllegalStateException", "java/lang/ArrayIndexOutOfBoundsException"), ("LookAtClock$Tossed", "java/lang/ArrayIndexOutOfBoundsException"), ("LookAtClock$Broken", "java/lang/IndexOutOfBoundsException"), ("java/lang/NegativeArraySizeException", "java/lang/IndexOutOfBoundsException"), ("java/lang/ClassCastException", "java/lang/IndexOutOfBoundsException"), ("java/lang/NullPointerException", "java/lang/IndexOutOfBoundsException"), ("java/lang/IllegalArgumentException", "java/lang/IndexOutOfBoundsException"), ("java/lang/IllegalStateException", "java/lang/IndexOutOfBoundsException"), ("LookAtClock$Tossed", "java/lang/IndexOutOfBoundsException"), ("LookAtClock$Broken", "java/lang/NullPointerException"), ("java/lang/NegativeArraySizeException", "java/lang/NullPointerException"), ("java/lang/ClassCastException", "java/lang/NullPointerException"), ("java/lang/ArrayIndexOutOfBoundsException", "java/lang/NullPointerException"), ("java/lang/IllegalArgumentException", "java/lang/NullPointerException"), ("java/lang/IllegalStateException", "java/lang/NullPointerException"), ("LookAtClock$Tossed", "java/lang/NullPointerException"), ("LookAtClock$Broken", "LookAtClock$Tossed"), ("java/lang/NegativeArraySizeException", "LookAtClock$Tossed"), ("java/lang/ClassCastException", "LookAtClock$Tossed"), ("java/lang/ArrayIndexOutOfBoundsException", "LookAtClock$Tossed"), ("java/lang/NullPointerException", "LookAtClock$Tossed"), ("java/lang/IllegalArgumentException", "LookAtClock$Tossed"), ("java/lang/IllegalStateException", "LookAtClock$Tossed"), ("LookAtClock$Broken", "java/lang/IllegalArgumentException"), ("java/lang/NegativeArraySizeException", "java/lang/IllegalArgumentException"), ("java/lang/ClassCastException", "java/lang/IllegalArgumentException"), ("java/lang/ArrayIndexOutOfBoundsException", "java/lang/IllegalArgumentException"), ("java/lang/NullPointerException", "java/lang/IllegalArgumentException"), ("java/lang/IllegalStateException", "java/lang/IllegalArgumentException"), ("LookAtClock$Tossed", "java/lang/IllegalArgumentException"), ("LookAtClock$Broken", "java/lang/IllegalStateException"), ("java/lang/NegativeArraySizeException", "java/lang/IllegalStateException"), ("java/lang/ClassCastException", "java/lang/IllegalStateException"), ("java/lang/ArrayIndexOutOfBoundsException", "java/lang/IllegalStateException"), ("java/lang/NullPointerException", "java/lang/IllegalStateException"), ("java/lang/IllegalArgumentException", "java/lang/IllegalStateException"), ("LookAtClock$Tossed", "java/lang/IllegalStateException"), ("LookAtClock$Looker", "[B"), ("LookAtClock$Never", "[B"), ("LookAtClock$Watcher", "[B"), ("LookAtClock$Cheap", "[B"), ("LookAtClock$Best", "[B"), ("LookAtClock$Share", "[B"), ("LookAtClock$Told", "[B"), ("LookAtClock$Seller", "[B"), ("[I", "[B"), ("[S", "[B"), ("LookAtClock$Looker", "[I"), ("LookAtClock$Never", "[I"), ("LookAtClock$Watcher", "[I"), ("LookAtClock$Cheap", "[I"), ("LookAtClock$Best", "[I"), ("LookAtClock$Share", "[I"), ("LookAtClock$Told", "[I"), ("LookAtClock$Seller", "[I"), ("[B", "[I"), ("[S", "[I"), ("LookAtClock$Looker", "[S"), ("LookAtClock$Never", "[S"), ("LookAtClock$Watcher", "[S"), ("LookAtClock$Cheap", "[S"), ("LookAtClock$Best", "[S"), ("LookAtClock$Share", "[S"), ("LookAtClock$Told", "[S"), ("LookAtClock$Seller", "[S"), ("[I", "[S"), ("[B", "[S"), ("[I", "LookAtClock$Looker"), ("[B", "LookAtClock$Looker"), ("[S", "LookAtClock$Looker")]
def landL : List (String × MethodName × MethodName) := [("LookAtClock$Best", ⟨"LookAtClock$Looker", "early", "()I"⟩, ⟨"LookAtClock$Looks", "early", "()I"⟩), ("LookAtClock$Cheap", ⟨"LookAtClock$Looker", "early", "()I"⟩, ⟨"LookAtClock$Looks", "early", "()I"⟩), ("LookAtClock$Looker", ⟨"LookAtClock$Looker", "early", "()I"⟩, ⟨"LookAtClock$Looks", "early", "()I"⟩), ("LookAtClock$Seller", ⟨"LookAtClock$Looker", "early", "()I"⟩, ⟨"LookAtClock$Looks", "early", "()I"⟩), ("LookAtClock$Share", ⟨"LookAtClock$Looker", "early", "()I"⟩, ⟨"LookAtClock$Looks", "early", "()I"⟩), ("LookAtClock$Watcher", ⟨"LookAtClock$Looker", "early", "()I"⟩, ⟨"LookAtClock$Looks", "early", "()I"⟩), ("LookAtClock$Looker", ⟨"LookAtClock$Looker", "looksNow", "(LLookAtClock$Day;)Z"⟩, ⟨"LookAtClock$Looks", "looksNow", "(LLookAtClock$Day;)Z"⟩), ("LookAtClock$Never", ⟨"LookAtClock$Looker", "looksNow", "(LLookAtClock$Day;)Z"⟩, ⟨"LookAtClock$Looks", "looksNow", "(LLookAtClock$Day;)Z"⟩), ("LookAtClock$Best", ⟨"LookAtClock$Looker", "pays", "(I)I"⟩, ⟨"LookAtClock$Pays", "pays", "(I)I"⟩), ("LookAtClock$Cheap", ⟨"LookAtClock$Looker", "pays", "(I)I"⟩, ⟨"LookAtClock$Pays", "pays", "(I)I"⟩), ("LookAtClock$Looker", ⟨"LookAtClock$Looker", "pays", "(I)I"⟩, ⟨"LookAtClock$Pays", "pays", "(I)I"⟩), ("LookAtClock$Never", ⟨"LookAtClock$Looker", "pays", "(I)I"⟩, ⟨"LookAtClock$Pays", "pays", "(I)I"⟩), ("LookAtClock$Cheap", ⟨"LookAtClock$Cheap", "pays", "(I)I"⟩, ⟨"LookAtClock$Pays", "pays", "(I)I"⟩), ("LookAtClock$Watcher", ⟨"LookAtClock$Watcher", "pays", "(I)I"⟩, ⟨"LookAtClock$Pays", "pays", "(I)I"⟩), ("LookAtClock$Told", ⟨"LookAtClock$Looker", "pays", "(I)I"⟩, ⟨"LookAtClock$Pays", "pays", "(I)I"⟩), ("LookAtClock$Watcher", ⟨"LookAtClock$Looker", "pays", "(I)I"⟩, ⟨"LookAtClock$Pays", "pays", "(I)I"⟩), ("LookAtClock$Looker", ⟨"LookAtClock$Looker", "skill", "()I"⟩, ⟨"LookAtClock$Skilled", "skill", "()I"⟩)]
def declL : List MethodName := [⟨"java/lang/Throwable", "<init>", "()V"⟩, ⟨"java/lang/Throwable", "<init>", "(Ljava/lang/String;)V"⟩, ⟨"java/lang/Throwable", "fillInStackTrace", "()Ljava/lang/Throwable;"⟩, ⟨"java/lang/Exception", "<init>", "()V"⟩, ⟨"java/lang/Exception", "<init>", "(Ljava/lang/String;)V"⟩, ⟨"java/lang/RuntimeException", "<init>", "()V"⟩, ⟨"java/lang/RuntimeException", "<init>", "(Ljava/lang/String;)V"⟩, ⟨"java/lang/IndexOutOfBoundsException", "<init>", "()V"⟩, ⟨"java/lang/IndexOutOfBoundsException", "<init>", "(Ljava/lang/String;)V"⟩, ⟨"LookAtClock$Looks", "early", "()I"⟩, ⟨"LookAtClock$Looks", "looksNow", "(LLookAtClock$Day;)Z"⟩, ⟨"LookAtClock$Pays", "pays", "(I)I"⟩, ⟨"LookAtClock$Skilled", "skill", "()I"⟩, ⟨"LookAtClock$Looker", "failure", "()LLookAtClock$Tossed;"⟩]
/-- words that hold all through a run and ride in no list -/
def KX (U : State) : Prop := (∀ q ∈ nestL, va_Nw (.methodLinkNest q.1 q.2.1 q.2.2.1 q.2.2.2) U) ∧ (va_AO "LookAtClock$Looker" U ∧ va_AO "LookAtClock$Shelf" U) ∧ (∀ q ∈ castL, va_Nw (.castable q.1 q.2) U) ∧ (∀ q ∈ nocastL, va_Nc q.1 q.2 U) ∧ (∀ q ∈ landL, va_Nw (.landsInDefault q.1 q.2.1 q.2.2) U) ∧ (∀ x ∈ declL, va_Nw (.declares x) U) ∧ (∀ w ∈ defaultWords_1, va_Nw w U) ∧ modulesRight_1 U = true ∧ (Cond.arrayOver (.array .int)).before #[] U = true
theorem dw_good : ∀ w ∈ defaultWords_1, (w.onTables && w.keeps) = true := by decide +kernel
theorem kx_over {u U : State} (hvm : u.vm.Alike U.vm) (h : (Cond.arrayOver (.array .int)).before #[] u = true) : (Cond.arrayOver (.array .int)).before #[] U = true := by
  have hi : ∀ comp : ClassId, (U.vm.classes.findIdx? fun (x : Class) => match x.kind with | .array component _ => component == comp | _ => false) = (u.vm.classes.findIdx? fun (x : Class) => match x.kind with | .array component _ => component == comp | _ => false) := fun comp => by
    have e3 : U.vm.bare = u.vm.bare := by first | exact hvm.bare_eq | exact hvm.bare_eq.symm
    exact (va_idx_bare U.vm comp).symm.trans ((congrArg (fun v : Vm => v.classes.findIdx? fun (x : Class) => match x.kind with | .array component _ => component == comp | _ => false) e3).trans (va_idx_bare u.vm comp))
  have hk : ∀ c : Nat, ((U.vm.classes[c]?).map fun (k : Class) => match k.kind with | .array _ ty => decide (ty = FieldType.array .int) && decide (u.vm.findClass ("[" ++ (FieldType.array .int).toString) = some c) | _ => false) = ((u.vm.classes[c]?).map fun (k : Class) => match k.kind with | .array _ ty => decide (ty = FieldType.array .int) && decide (u.vm.findClass ("[" ++ (FieldType.array .int).toString) = some c) | _ => false) := fun c => by
    cases hc : u.vm.classes[c]? with
    | none =>
      have : U.vm.classes[c]? = none := by
        have h1 := hvm.2.1
        rw [Array.getElem?_eq_none_iff] at hc ⊢
        omega
      rw [this]
    | some k =>
      obtain ⟨k', hk', he⟩ := hvm.2.2 _ _ hc
      rw [hk', Option.map_some, Option.map_some, he]
  rw [← h]
  unfold Cond.before Cond.holds
  simp only [Cond.value, hvm.findClass]
  refine congrArg (fun o : Option Bool => o == some true) (congrArg (Option.bind _) (funext fun comp => ?_))
  exact (congrArg (fun o : Option Nat => o.bind _) (hi comp)).trans (congrArg (Option.bind _) (funext fun c => hk c))
theorem KX.warm {s U : State} (hW : s.WarmedH U.vm) (h : KX s) : KX U := by
  obtain ⟨h1, ⟨h2, h2'⟩, h3, h4, h5, h6, h7, h8, h9⟩ := h
  refine ⟨fun q hq => va_Nw.warmM hW (h1 q hq), ⟨h2.moved hW.alike, h2'.moved hW.alike⟩, fun q hq => va_Nw.warmC hW (h3 q hq), fun q hq => (h4 q hq).moved hW.alike, fun q hq => ?_, fun q hq => va_Nw.warmD hW (h6 q hq), fun w hw => word_at hW (Or.inl (dw_good w hw)) (h7 w hw), ?_, kx_over hW.alike h9⟩
  · have e := Cond.landsInDefault_setVm (args := #[]) (args' := #[]) hW.alike (cls := q.1) (x := q.2.1) (y := q.2.2) (State.methodFound?_setVm hW.alike _ _ _)
    exact e.trans (h5 q hq)
  · have e : U.vm.modules = s.vm.modules := by rw [hW.1]
    unfold modulesRight_1 at h8 ⊢
    rw [e]
    exact h8
theorem KX.same {u U : State} (h : u.vm = U.vm) (hk : KX u) : KX U := KX.warm (by rw [← h]; exact State.WarmedH.refl u) hk
/-- what holds of the tables all through -/
def KK (dC : Nat → ClassId) (dI : Nat → Nat → Nat) (dA : Nat → ClassId) (U : State) : Prop := va_K (dC, dI) vwCl (tys7 dA) U ∧ KX U
theorem KK.warm {dC : Nat → ClassId} {dI : Nat → Nat → Nat} {dA : Nat → ClassId} {s U : State} (hW : s.WarmedH U.vm) (h : KK dC dI dA s) : KK dC dI dA U := ⟨va_K.moved hW.alike h.1, h.2.warm hW⟩
theorem KK.same {dC : Nat → ClassId} {dI : Nat → Nat → Nat} {dA : Nat → ClassId} {u U : State} (h : u.vm = U.vm) (hk : KK dC dI dA u) : KK dC dI dA U := KK.warm (by rw [← h]; exact State.WarmedH.refl u) hk
/-- a truth as the machine has it -/
def bI (P : Prop) [Decidable P] : Int32 := if P then 1 else 0
theorem bI_t {P : Prop} [Decidable P] (h : P) : bI P = 1 := if_pos h
theorem bI_f {P : Prop} [Decidable P] (h : ¬ P) : bI P = 0 := if_neg h
theorem bI_eq0 {P : Prop} [Decidable P] {r : Int32} (h : r = bI P) (hr : r = 0) : ¬ P := fun q => by rw [h, bI_t q] at hr; exact absurd hr (by decide)
theorem bI_ne0 {P : Prop} [Decidable P] {r : Int32} (h : r = bI P) (hr : ¬ r = 0) : P := Decidable.byContradiction fun q => hr (by rw [h, bI_f q])
theorem bI_nar {P : Prop} [Decidable P] : narrow .boolean (.int (bI P)) = .int (bI P) := by
  by_cases h : P
  · rw [bI_t h]; rfl
  · rw [bI_f h]; rfl
theorem bI_narr {P : Prop} [Decidable P] {r : Int32} (h : r = bI P) : narrow .boolean (.int r) = .int r := by rw [h]; exact bI_nar
theorem bI_congr {P Q : Prop} [Decidable P] [Decidable Q] (h : P ↔ Q) : bI P = bI Q := by
  by_cases q : Q
  · rw [bI_t q, bI_t (h.mpr q)]
  · rw [bI_f q, bI_f (fun z => q (h.mp z))]
theorem fm_of {α β : Type} {f : α → Option β} : ∀ {is : List α} {l : List β}, is.map f = l.map some → is.filterMap f = l
  | [], [], _ => rfl
  | [], _ :: _, h => by simp at h
  | _ :: _, [], h => by simp at h
  | i :: is, b :: l, h => by
    simp only [List.map_cons, List.cons.injEq] at h
    rw [List.filterMap_cons, h.1]
    exact congrArg (b :: ·) (fm_of h.2)
/-- a method's start: its world, what holds of the tables; 'RwP': of one that writes -/
def RoP (dC : Nat → ClassId) (dI : Nat → Nat → Nat) (dA : Nat → ClassId) (av : List Value) (ws : va_W) : Array Value → State → Prop := va_Pc av (fun U => va_P (dC, dI) vwCl ws U.heap ∧ KK dC dI dA U)
def RwP (dC : Nat → ClassId) (dI : Nat → Nat → Nat) (dA : Nat → ClassId) (av : List Value) (ws : va_W) (sz : Nat) : Array Value → State → Prop := va_Pc av (fun U => U.heap.size = sz ∧ va_P (dC, dI) vwCl ws U.heap ∧ KK dC dI dA U ∧ va_D (fun _ => True) ws)
def RwB {S : Type} (dC : Nat → ClassId) (dI : Nat → Nat → Nat) (A : Nat → Prop) (W' : S → va_W) (u : S) (t : State) : Prop := va_P (dC, dI) vwCl (W' u) t.heap ∧ va_D A (W' u)
def RwBr {S : Type} (dC : Nat → ClassId) (dI : Nat → Nat → Nat) (A : Nat → Prop) (W' : S → Nat → va_W) (u : S) (a : Nat) (t : State) : Prop := va_P (dC, dI) vwCl (W' u a) t.heap ∧ va_D A (W' u a)
theorem RoP.blind {dC : Nat → ClassId} {dI : Nat → Nat → Nat} {dA : Nat → ClassId} {av : List Value} {ws : va_W} : FrameBlind (RoP dC dI dA av ws) := fun a U g mk q => ⟨q.1, q.2.1, q.2.2.same (u := U) (U := U.calling g mk a) rfl⟩
theorem RwP.blind {dC : Nat → ClassId} {dI : Nat → Nat → Nat} {dA : Nat → ClassId} {av : List Value} {ws : va_W} {sz : Nat} : FrameBlind (RwP dC dI dA av ws sz) := fun a U g mk q => ⟨q.1, q.2.1, q.2.2.1, q.2.2.2.1.same (u := U) (U := U.calling g mk a) rfl, q.2.2.2.2⟩
section BASE
variable {p : Program} {l : Launch} {e : Env} {R : Room} {s : State} {m : MethodId} {args : Array Value} {below : List Frame} {meth : Method} {c : Code} {H : Heap} {locs : List Loc} {cells slots : Nat} {Q : State → Prop}
variable {cc bytes : ByteArray} {pc : Nat} {ls : Array Slot} {rest st As : List Value} {dC : Nat → ClassId} {dI : Nat → Nat → Nat} {dA : Nat → ClassId} {b : Nat}
variable {A : Nat → Prop} {ws wc wr : va_W} {y : MethodName} {words : List Cond} {rm : Room} {maxL nL mc ms n index : Nat} {ret : Option FieldType} {own C host : String}
theorem ofRo {ws' : List Cond} {av : List Value} {post : Int32 → Prop} (hy : plainName y.cls = true) (hw : words = Cond.code y cc maxL ret :: ws') (hall : ∀ w ∈ lw_all, w ∈ words) (hsl : (lg_sl av).length ≤ maxL)
    (body : ∀ (p : Program) (e : Env) (s : State) (m : MethodId) (below : List Frame) (meth : Method) (c : Code) (ls : Array Slot), p.tables.exec = Jvm.exec → c.code = cc → meth.sig.returnType = ret → meth.locks = false → c.maxLocals = maxL → (∀ w ∈ lw_all, w.before av.toArray s = true) → s.vm.findClass y.cls = some m.cls → va_P (dC, dI) vwCl ws s.heap → KK dC dI dA s → lv_has ls maxL (lv_args 0 av) →
      W p l e rm s m av.toArray below meth c s.heap [] 0 0 (MQ below (vp_Si post) av.toArray s 0 0 (fun _ => False)) (F0 m 0 ls [])) :
    Met l y words rm (RoP dC dI dA av ws) (vp_Si post) 0 0 (fun _ => False) := by
  refine Met.ofW (cc := cc) (maxL := maxL) (ret := ret) hy hw ?_
  intro p e s m args below meth c s₁ B hml hv
  obtain ⟨rfl, hP, hK⟩ := hv
  have hl := lv_entry av (n := maxL) hsl
  rw [lg_entry_eq]
  have hts := atoms_spec (ws := words) B.pre
  exact body p e s m below meth c _ B.exec B.bytes B.returns B.notSynchronized hml (fun w h => hts w (hall w h)) (findClass_of_methodNamed B.named) hP hK hl
theorem ofRw {ws' : List Cond} {av : List Value} {sz : Nat} {Qf : (Nat → Prop) → Array Value → State → Outcome → State → Prop} (hy : plainName y.cls = true) (hw : words = Cond.code y cc maxL ret :: ws') (hall : ∀ w ∈ lw_all, w ∈ words) (hsl : (lg_sl av).length ≤ maxL)
    (body : ∀ (p : Program) (e : Env) (s : State) (m : MethodId) (below : List Frame) (meth : Method) (c : Code) (ls : Array Slot) (A : Nat → Prop), p.tables.exec = Jvm.exec → c.code = cc → meth.sig.returnType = ret → meth.locks = false → c.maxLocals = maxL → (∀ w ∈ lw_all, w.before av.toArray s = true) → s.vm.findClass y.cls = some m.cls → va_P (dC, dI) vwCl ws s.heap → KK dC dI dA s → va_D A ws → (∀ q : Nat, s.heap.size ≤ q → A q) → meth.name = y.name → s.heap.size = sz → lv_has ls maxL (lv_args 0 av) →
      W p l e rm s m av.toArray below meth c s.heap [] 0 0 (MQ below (Qf A) av.toArray s mc ms A) (F0 m 0 ls [])) :
    Met l y words rm (RwP dC dI dA av ws sz) (Qf (va_A ws sz)) mc ms (va_A ws sz) := by
  refine Met.ofW (cc := cc) (maxL := maxL) (ret := ret) hy hw ?_
  intro p e s m args below meth c s₁ B hml hv
  obtain ⟨rfl, hsz, hP, hK, hD0⟩ := hv
  have hl := lv_entry av (n := maxL) hsl
  rw [lg_entry_eq]
  have hts := atoms_spec (ws := words) B.pre
  subst hsz
  exact body p e s m below meth c _ _ B.exec B.bytes B.returns B.notSynchronized hml (fun w h => hts w (hall w h)) (findClass_of_methodNamed B.named) hP hK (hD0.self (sz := s.heap.size)) (fun q h => Or.inr h) (name_of_methodNamed B.named B.method).1 rfl hl
/-! calls of methods that read only -/
theorem ro_V {post : Int32 → Prop} (S : CallFix p m c cc nL s args lw_all own) (hM : Met l y words rm (RoP dC dI dA (.ref b :: As) wc) (vp_Si post) 0 0 (fun _ => False)) (cw : CallW R s args own C index y bytes maxL ret words rm 0 0 n) (hK : KK dC dI dA s) (hP : va_P (dC, dI) vwCl ws H) (is : List Nat) (his : is.map (fun i => ws[i]?) = wc.map some)
    (hrecv : ∃ cell : Cell, H[b]? = some cell ∧ cell.vm.isStatics = false ∧ s.vm.findClass C = some cell.cls) (hn : As.length = n) (hsize : ls.size = nL) (hst : st = As.reverse ++ .ref b :: rest) (hW : (rest.map fun v => v.category).sum ≤ 8) (hdg : decode cc pc = .ok (.invokevirtual index, 3)) (hf : cells ≤ R.cells ∧ slots ≤ R.slots)
    (kk : ∀ r : Int32, post r → W p l e R s m args below meth c H locs cells slots Q (F0 m (pc + 3) ls (.int r :: rest))) : W p l e R s m args below meth c H locs cells slots Q (F0 m pc ls st) :=
  vp_callSi (post := post) (W.runV (rest := rest) S hM cw ⟨RoP.blind, hrecv, fun U hU hW => ⟨rfl, by rw [hU]; exact hP.sub is (fm_of his), hK.warm hW⟩⟩ rfl hn hsize hst (lv_room hW) hdg hf) kk
theorem ro_S {post : Int32 → Prop} (S : CallFix p m c cc nL s args lw_all own) (hM : Met l y words rm (RoP dC dI dA As wc) (vp_Si post) 0 0 (fun _ => False)) (cw : CallB R s args own index y bytes maxL ret words rm 0 0 n ∧ (Cond.static y).before args s = true) (hK : KK dC dI dA s) (hP : va_P (dC, dI) vwCl ws H) (is : List Nat) (his : is.map (fun i => ws[i]?) = wc.map some)
    (hn : As.length = n) (hsize : ls.size = nL) (hst : st = As.reverse ++ rest) (hW : (rest.map fun v => v.category).sum ≤ 8) (hdg : decode cc pc = .ok (.invokestatic index, 3)) (hf : cells ≤ R.cells ∧ slots ≤ R.slots)
    (kk : ∀ r : Int32, post r → W p l e R s m args below meth c H locs cells slots Q (F0 m (pc + 3) ls (.int r :: rest))) : W p l e R s m args below meth c H locs cells slots Q (F0 m pc ls st) :=
  vp_callSi (post := post) (W.runS (rest := rest) S hM cw ⟨RoP.blind, fun U hU hW => ⟨rfl, by rw [hU]; exact hP.sub is (fm_of his), hK.warm hW⟩⟩ rfl hn hsize hst (lv_room hW) hdg hf) kk
theorem ro_SN {post : Int32 → Prop} (S : CallFix p m c cc nL s args lw_all own) (hM : Met l y words rm (RoP dC dI dA As wc) (vp_Si post) 0 0 (fun _ => False)) (cw : va_CN R s args own index y host bytes maxL ret words rm 0 0 n ∧ (Cond.static y).before args s = true ∧ True) (hK : KK dC dI dA s) (hP : va_P (dC, dI) vwCl ws H) (is : List Nat) (his : is.map (fun i => ws[i]?) = wc.map some)
    (hn : As.length = n) (hsize : ls.size = nL) (hst : st = As.reverse ++ rest) (hW : (rest.map fun v => v.category).sum ≤ 8) (hdg : decode cc pc = .ok (.invokestatic index, 3)) (hf : cells ≤ R.cells ∧ slots ≤ R.slots)
    (kk : ∀ r : Int32, post r → W p l e R s m args below meth c H locs cells slots Q (F0 m (pc + 3) ls (.int r :: rest))) : W p l e R s m args below meth c H locs cells slots Q (F0 m pc ls st) :=
  vp_callSi (post := post) (va_Run.run (va_runSN (rest := rest) S hM cw ⟨RoP.blind, fun U hU hW => ⟨rfl, by rw [hU]; exact hP.sub is (fm_of his), hK.warm hW⟩⟩ rfl hn hsize hst (lv_room hW) hdg hf)) kk
/-! calls of methods that write: the run, then its end -/
theorem rw_V {Qc : Array Value → State → Outcome → State → Prop} (S : CallFix p m c cc nL s args lw_all own) (hM : Met l y words rm (RwP dC dI dA (.ref b :: As) wc H.size) Qc mc ms (va_A wc H.size)) (cw : CallW R s args own C index y bytes maxL ret words rm mc ms n) (hK : KK dC dI dA s) (hP : va_P (dC, dI) vwCl ws H) (hD : va_D A ws) (is : List Nat) (his : is.map (fun i => ws[i]?) = wc.map some) (hnd : va_nd is = true)
    (hrecv : ∃ cell : Cell, H[b]? = some cell ∧ cell.vm.isStatics = false ∧ s.vm.findClass C = some cell.cls) (hn : As.length = n) (hsize : ls.size = nL) (hst : st = As.reverse ++ .ref b :: rest) (hW : (rest.map fun v => v.category).sum ≤ 8) (hdg : decode cc pc = .ok (.invokevirtual index, 3)) (hf : cells + mc ≤ R.cells ∧ slots + ms ≤ R.slots) :
    va_Run p l e R s m args below meth c H locs cells slots mc ms (F0 m pc ls st) rest (Qc (Value.ref b :: As).toArray) (va_A wc H.size) :=
  va_runV (rest := rest) S hM cw ⟨RwP.blind, hrecv, fun U hU hW => ⟨rfl, by rw [hU], by rw [hU]; exact hP.sub is (fm_of his), hK.warm hW, (hD.sub is hnd his).weaken (fun _ _ _ _ => trivial)⟩⟩ rfl hn hsize hst (lv_room hW) hdg hf
theorem rw_S {Qc : Array Value → State → Outcome → State → Prop} (S : CallFix p m c cc nL s args lw_all own) (hM : Met l y words rm (RwP dC dI dA As wc H.size) Qc mc ms (va_A wc H.size)) (cw : CallB R s args own index y bytes maxL ret words rm mc ms n ∧ (Cond.static y).before args s = true) (hK : KK dC dI dA s) (hP : va_P (dC, dI) vwCl ws H) (hD : va_D A ws) (is : List Nat) (his : is.map (fun i => ws[i]?) = wc.map some) (hnd : va_nd is = true)
    (hn : As.length = n) (hsize : ls.size = nL) (hst : st = As.reverse ++ rest) (hW : (rest.map fun v => v.category).sum ≤ 8) (hdg : decode cc pc = .ok (.invokestatic index, 3)) (hf : cells + mc ≤ R.cells ∧ slots + ms ≤ R.slots) :
    va_Run p l e R s m args below meth c H locs cells slots mc ms (F0 m pc ls st) rest (Qc As.toArray) (va_A wc H.size) :=
  va_runS (rest := rest) S hM cw ⟨RwP.blind, fun U hU hW => ⟨rfl, by rw [hU], by rw [hU]; exact hP.sub is (fm_of his), hK.warm hW, (hD.sub is hnd his).weaken (fun _ _ _ _ => trivial)⟩⟩ rfl hn hsize hst (lv_room hW) hdg hf
theorem rw_I {Qc : Array Value → State → Outcome → State → Prop} (S : CallFix p m c cc nL s args lw_all own) (hM : Met l y words rm (RwP dC dI dA (.ref b :: As) wc H.size) Qc mc ms (va_A wc H.size)) (cw : CallB R s args own index y bytes maxL none words rm mc ms n ∧ y.name = "<init>" ∧ (Cond.instanceMethod y).before args s = true) (hK : KK dC dI dA s) (hP : va_P (dC, dI) vwCl ws H) (hD : va_D A ws) (is : List Nat) (his : is.map (fun i => ws[i]?) = wc.map some) (hnd : va_nd is = true)
    (hn : As.length = n) (hsize : ls.size = nL) (hst : st = As.reverse ++ .ref b :: rest) (hW : (rest.map fun v => v.category).sum ≤ 8) (hdg : decode cc pc = .ok (.invokespecial index, 3)) (hf : cells + mc ≤ R.cells ∧ slots + ms ≤ R.slots) :
    va_Run p l e R s m args below meth c H locs cells slots mc ms (F0 m pc ls st) rest (Qc (Value.ref b :: As).toArray) (va_A wc H.size) :=
  va_runI (rest := rest) S hM cw ⟨RwP.blind, fun U hU hW => ⟨rfl, by rw [hU], by rw [hU]; exact hP.sub is (fm_of his), hK.warm hW, (hD.sub is hnd his).weaken (fun _ _ _ _ => trivial)⟩⟩ rfl hn hsize hst (lv_room hW) hdg hf
theorem rw_IN {Qc : Array Value → State → Outcome → State → Prop} (S : CallFix p m c cc nL s args lw_all own) (hM : Met l y words rm (RwP dC dI dA (.ref b :: As) wc H.size) Qc mc ms (va_A wc H.size)) (cw : va_CN R s args own index y host bytes maxL none words rm mc ms n ∧ y.name = "<init>" ∧ (Cond.instanceMethod y).before args s = true) (hK : KK dC dI dA s) (hP : va_P (dC, dI) vwCl ws H) (hD : va_D A ws) (is : List Nat) (his : is.map (fun i => ws[i]?) = wc.map some) (hnd : va_nd is = true)
    (hn : As.length = n) (hsize : ls.size = nL) (hst : st = As.reverse ++ .ref b :: rest) (hW : (rest.map fun v => v.category).sum ≤ 8) (hdg : decode cc pc = .ok (.invokespecial index, 3)) (hf : cells + mc ≤ R.cells ∧ slots + ms ≤ R.slots) :
    va_Run p l e R s m args below meth c H locs cells slots mc ms (F0 m pc ls st) rest (Qc (Value.ref b :: As).toArray) (va_A wc H.size) :=
  va_runIN (rest := rest) S hM cw ⟨RwP.blind, fun U hU hW => ⟨rfl, by rw [hU], by rw [hU]; exact hP.sub is (fm_of his), hK.warm hW, (hD.sub is hnd his).weaken (fun _ _ _ _ => trivial)⟩⟩ rfl hn hsize hst (lv_room hW) hdg hf
theorem rw_i {S : Type} {post : Int32 → S → Prop} {W' : S → va_W} {a : Array Value} (hr : va_Run p l e R s m args below meth c H locs cells slots mc ms (F0 m pc ls st) rest (va_Qi post (RwB dC dI (va_A wc H.size) W') (va_A wc H.size) a) (va_A wc H.size)) (hP : va_P (dC, dI) vwCl ws H) (hD : va_D A ws) (hS : va_S A s.heap H locs) (hA : ∀ q : Nat, s.heap.size ≤ q → A q)
    (isC isR : List Nat) (hC : isC.map (fun i => ws[i]?) = wc.map some) (hR : isR.map (fun i => ws[i]?) = wr.map some) (hn : va_nd isR = true) (hdis : ∀ i ∈ isR, i ∉ isC)
    (kk : ∀ (r : Int32) (u : S) (H1 : Heap) (locs1 : List Loc), post r u → H.size ≤ H1.size → va_P (dC, dI) vwCl (wr ++ W' u) H1 → va_D A (wr ++ W' u) → va_S A s.heap H1 locs1 → W p l e R s m args below meth c H1 locs1 (cells + mc) (slots + ms) Q (F0 m (pc + 3) ls (.int r :: rest))) : W p l e R s m args below meth c H locs cells slots Q (F0 m pc ls st) := by
  have hF := va_free hD hS hA isC hC
  refine va_calli hr hS (fun q _ h => hF q h) hF (fun r u t H1 locs ht hvm hp hB hz hk hS1 => ?_)
  obtain ⟨hP1, hD1⟩ := hB
  rw [ht] at hP1
  obtain ⟨hP2, hD2⟩ := va_join hP hD isC isR hC hR hn hdis hk hF hP1 hD1
  exact kk r u H1 locs hp hz hP2 hD2 hS1
theorem rw_l {S : Type} {post : Int64 → S → Prop} {W' : S → va_W} {a : Array Value} (hr : va_Run p l e R s m args below meth c H locs cells slots mc ms (F0 m pc ls st) rest (va_Ql post (RwB dC dI (va_A wc H.size) W') (va_A wc H.size) a) (va_A wc H.size)) (hP : va_P (dC, dI) vwCl ws H) (hD : va_D A ws) (hS : va_S A s.heap H locs) (hA : ∀ q : Nat, s.heap.size ≤ q → A q)
    (isC isR : List Nat) (hC : isC.map (fun i => ws[i]?) = wc.map some) (hR : isR.map (fun i => ws[i]?) = wr.map some) (hn : va_nd isR = true) (hdis : ∀ i ∈ isR, i ∉ isC)
    (kk : ∀ (r : Int64) (u : S) (H1 : Heap) (locs1 : List Loc), post r u → H.size ≤ H1.size → va_P (dC, dI) vwCl (wr ++ W' u) H1 → va_D A (wr ++ W' u) → va_S A s.heap H1 locs1 → W p l e R s m args below meth c H1 locs1 (cells + mc) (slots + ms) Q (F0 m (pc + 3) ls (.long r :: rest))) : W p l e R s m args below meth c H locs cells slots Q (F0 m pc ls st) := by
  have hF := va_free hD hS hA isC hC
  refine va_calll hr hS (fun q _ h => hF q h) hF (fun r u t H1 locs ht hvm hp hB hz hk hS1 => ?_)
  obtain ⟨hP1, hD1⟩ := hB
  rw [ht] at hP1
  obtain ⟨hP2, hD2⟩ := va_join hP hD isC isR hC hR hn hdis hk hF hP1 hD1
  exact kk r u H1 locs hp hz hP2 hD2 hS1
theorem rw_v {S : Type} {post : S → Prop} {W' : S → va_W} {a : Array Value} (hr : va_Run p l e R s m args below meth c H locs cells slots mc ms (F0 m pc ls st) rest (va_Qv post (RwB dC dI (va_A wc H.size) W') (va_A wc H.size) a) (va_A wc H.size)) (hP : va_P (dC, dI) vwCl ws H) (hD : va_D A ws) (hS : va_S A s.heap H locs) (hA : ∀ q : Nat, s.heap.size ≤ q → A q)
    (isC isR : List Nat) (hC : isC.map (fun i => ws[i]?) = wc.map some) (hR : isR.map (fun i => ws[i]?) = wr.map some) (hn : va_nd isR = true) (hdis : ∀ i ∈ isR, i ∉ isC)
    (kk : ∀ (u : S) (H1 : Heap) (locs1 : List Loc), post u → H.size ≤ H1.size → va_P (dC, dI) vwCl (wr ++ W' u) H1 → va_D A (wr ++ W' u) → va_S A s.heap H1 locs1 → W p l e R s m args below meth c H1 locs1 (cells + mc) (slots + ms) Q (F0 m (pc + 3) ls rest)) : W p l e R s m args below meth c H locs cells slots Q (F0 m pc ls st) := by
  have hF := va_free hD hS hA isC hC
  refine va_callv hr hS (fun q _ h => hF q h) hF (fun u t H1 locs ht hvm hp hB hz hk hS1 => ?_)
  obtain ⟨hP1, hD1⟩ := hB
  rw [ht] at hP1
  obtain ⟨hP2, hD2⟩ := va_join hP hD isC isR hC hR hn hdis hk hF hP1 hD1
  exact kk u H1 locs hp hz hP2 hD2 hS1
theorem rw_r {S : Type} {post : S → Prop} {W' : S → Nat → va_W} {a : Array Value} (hr : va_Run p l e R s m args below meth c H locs cells slots mc ms (F0 m pc ls st) rest (va_Qr post (RwBr dC dI (va_A wc H.size) W') (va_A wc H.size) a) (va_A wc H.size)) (hP : va_P (dC, dI) vwCl ws H) (hD : va_D A ws) (hS : va_S A s.heap H locs) (hA : ∀ q : Nat, s.heap.size ≤ q → A q)
    (isC isR : List Nat) (hC : isC.map (fun i => ws[i]?) = wc.map some) (hR : isR.map (fun i => ws[i]?) = wr.map some) (hn : va_nd isR = true) (hdis : ∀ i ∈ isR, i ∉ isC)
    (kk : ∀ (u : S) (ra : Nat) (H1 : Heap) (locs1 : List Loc), post u → H.size ≤ H1.size → va_P (dC, dI) vwCl (wr ++ W' u ra) H1 → va_D A (wr ++ W' u ra) → va_S A s.heap H1 locs1 → W p l e R s m args below meth c H1 locs1 (cells + mc) (slots + ms) Q (F0 m (pc + 3) ls (.ref ra :: rest))) : W p l e R s m args below meth c H locs cells slots Q (F0 m pc ls st) := by
  have hF := va_free hD hS hA isC hC
  refine va_callr hr hS (fun q _ h => hF q h) hF (fun u ra t H1 locs ht hvm hp hB hz hk hS1 => ?_)
  obtain ⟨hP1, hD1⟩ := hB
  rw [ht] at hP1
  obtain ⟨hP2, hD2⟩ := va_join hP hD isC isR hC hR hn hdis hk hF hP1 hD1
  exact kk u ra H1 locs hp hz hP2 hD2 hS1
/-! ends -/
theorem rt_si {post : Int32 → Prop} {v : Int32} (hx : p.tables.exec = Jvm.exec) (hb : c.code = cc) (hr : meth.sig.returnType = some .int) (hlocks : meth.locks = false) (hdg : decode cc pc = .ok (.ireturn, 1)) (hp : post v) : W p l e R s m args below meth c s.heap [] 0 0 (MQ below (vp_Si post) args s 0 0 (fun _ => False)) (F0 m pc ls [.int v]) :=
  W.iret hx hb hr (fun t ht hW => ⟨v, rfl, hp, ht⟩) (fun _ h => nomatch h) hdg hlocks
theorem rt_sz {post : Int32 → Prop} {v : Int32} (hx : p.tables.exec = Jvm.exec) (hb : c.code = cc) (hr : meth.sig.returnType = some .boolean) (hlocks : meth.locks = false) (hdg : decode cc pc = .ok (.ireturn, 1)) (hn : narrow .boolean (.int v) = .int v) (hp : post v) : W p l e R s m args below meth c s.heap [] 0 0 (MQ below (vp_Si post) args s 0 0 (fun _ => False)) (F0 m pc ls [.int v]) :=
  W.zret hx hb hr hn (fun t ht hW => ⟨v, rfl, hp, ht⟩) (fun _ h => nomatch h) hdg hlocks
theorem rt_i {S : Type} {post : Int32 → S → Prop} {W' : S → va_W} {v : Int32} (hx : p.tables.exec = Jvm.exec) (hb : c.code = cc) (hr : meth.sig.returnType = some .int) (hlocks : meth.locks = false) (hdg : decode cc pc = .ok (.ireturn, 1)) (hP : va_P (dC, dI) vwCl ws H) (hD : va_D A ws) (hS : va_S A s.heap H locs) (hc : cells ≤ mc) (hs : slots ≤ ms) (u : S) (is : List Nat) (hi : is.map (fun i => ws[i]?) = (W' u).map some) (hn : va_nd is = true) (hp : post v u) :
    W p l e R s m args below meth c H locs cells slots (MQ below (va_Qi post (RwB dC dI A W') A) args s mc ms A) (F0 m pc ls [.int v]) :=
  W.widen hc hs (W.iret hx hb hr (fun t ht hW => ⟨⟨v, u, rfl, hp, by rw [ht]; exact hP.sub is (fm_of hi), hD.sub is hn hi⟩, hS.F ht⟩) hS.2.2 hdg hlocks)
theorem rt_z {S : Type} {post : Int32 → S → Prop} {W' : S → va_W} {v : Int32} (hx : p.tables.exec = Jvm.exec) (hb : c.code = cc) (hr : meth.sig.returnType = some .boolean) (hlocks : meth.locks = false) (hdg : decode cc pc = .ok (.ireturn, 1)) (hP : va_P (dC, dI) vwCl ws H) (hD : va_D A ws) (hS : va_S A s.heap H locs) (hc : cells ≤ mc) (hs : slots ≤ ms) (hnr : narrow .boolean (.int v) = .int v) (u : S) (is : List Nat) (hi : is.map (fun i => ws[i]?) = (W' u).map some) (hn : va_nd is = true) (hp : post v u) :
    W p l e R s m args below meth c H locs cells slots (MQ below (va_Qi post (RwB dC dI A W') A) args s mc ms A) (F0 m pc ls [.int v]) :=
  W.widen hc hs (W.zret hx hb hr hnr (fun t ht hW => ⟨⟨v, u, rfl, hp, by rw [ht]; exact hP.sub is (fm_of hi), hD.sub is hn hi⟩, hS.F ht⟩) hS.2.2 hdg hlocks)
theorem rt_l {S : Type} {post : Int64 → S → Prop} {W' : S → va_W} {v : Int64} (hx : p.tables.exec = Jvm.exec) (hb : c.code = cc) (hr : meth.sig.returnType = some .long) (hlocks : meth.locks = false) (hdg : decode cc pc = .ok (.lreturn, 1)) (hP : va_P (dC, dI) vwCl ws H) (hD : va_D A ws) (hS : va_S A s.heap H locs) (hc : cells ≤ mc) (hs : slots ≤ ms) (u : S) (is : List Nat) (hi : is.map (fun i => ws[i]?) = (W' u).map some) (hn : va_nd is = true) (hp : post v u) :
    W p l e R s m args below meth c H locs cells slots (MQ below (va_Ql post (RwB dC dI A W') A) args s mc ms A) (F0 m pc ls [.long v]) :=
  W.widen hc hs (W.lret hx hb hr (fun t ht hW => ⟨⟨v, u, rfl, hp, by rw [ht]; exact hP.sub is (fm_of hi), hD.sub is hn hi⟩, hS.F ht⟩) hS.2.2 hdg hlocks)
theorem rt_v {S : Type} {post : S → Prop} {W' : S → va_W} (hx : p.tables.exec = Jvm.exec) (hb : c.code = cc) (hr : meth.sig.returnType = none) (hlocks : meth.locks = false) (hdg : decode cc pc = .ok (.return_, 1)) (hP : va_P (dC, dI) vwCl ws H) (hD : va_D A ws) (hS : va_S A s.heap H locs) (hc : cells ≤ mc) (hs : slots ≤ ms) (u : S) (is : List Nat) (hi : is.map (fun i => ws[i]?) = (W' u).map some) (hn : va_nd is = true) (hp : post u) :
    W p l e R s m args below meth c H locs cells slots (MQ below (va_Qv post (RwB dC dI A W') A) args s mc ms A) (F0 m pc ls []) :=
  W.widen hc hs (W.vret hx hb hr (fun t ht hW => ⟨⟨u, rfl, hp, by rw [ht]; exact hP.sub is (fm_of hi), hD.sub is hn hi⟩, hS.F ht⟩) hS.2.2 hdg hlocks)
theorem rt_r {S : Type} {post : S → Prop} {W' : S → Nat → va_W} {v : Nat} {rt : FieldType} (hx : p.tables.exec = Jvm.exec) (hb : c.code = cc) (hr : meth.sig.returnType = some rt) (hrt : (∃ n, rt = .object n) ∨ ∃ t, rt = .array t) (hlocks : meth.locks = false) (hdg : decode cc pc = .ok (.areturn, 1)) (hP : va_P (dC, dI) vwCl ws H) (hD : va_D A ws) (hS : va_S A s.heap H locs) (hc : cells ≤ mc) (hs : slots ≤ ms) (u : S) (is : List Nat) (hi : is.map (fun i => ws[i]?) = (W' u v).map some) (hn : va_nd is = true) (hp : post u) :
    W p l e R s m args below meth c H locs cells slots (MQ below (va_Qr post (RwBr dC dI A W') A) args s mc ms A) (F0 m pc ls [.ref v]) :=
  W.widen hc hs (W.aret hx hb hr hrt (Or.inr ⟨v, rfl⟩) (fun t ht hW => ⟨⟨u, v, rfl, hp, by rw [ht]; exact hP.sub is (fm_of hi), hD.sub is hn hi⟩, hS.F ht⟩) hS.2.2 hdg hlocks)
end BASE
