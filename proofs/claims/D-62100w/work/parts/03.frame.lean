/-! THE FRAME: one word list for all methods, one context, one judgement K a method, rows a instruction -/
/-- the tables' words that stay true in a callee -/
def gtbl : List Cond := lw_tbl.filter goodWord
theorem gtbl_in {w : Cond} (h : w ∈ lw_tbl) (hg : goodWord w = true) : w ∈ gtbl := List.mem_filter.mpr ⟨h, hg⟩
theorem gtbl_all (i : Nat) {w : Cond} (h : lw_tbl[i]? = some w) (hg : goodWord w = true) : w ∈ gtbl := gtbl_in (List.mem_of_getElem? h) hg
theorem gtbl_good {w : Cond} (h : w ∈ gtbl) : (w.onTables && w.keeps) = true ∨ ∃ ty, w = .arrayClass ty := good_of_word (List.mem_filter.mp h).2
theorem gtbl_sub {Ts : List Cond} (hT : ∀ w ∈ gtbl, w ∈ Ts) {w0 : Cond} (h0 : w0 ∈ gtbl) : GoodIn Ts (w0 :: gtbl) := by
  intro w hw
  rcases List.mem_cons.mp hw with rfl | hw
  · exact ⟨hT _ h0, gtbl_good h0⟩
  · exact ⟨hT _ hw, gtbl_good hw⟩
/-- words that are carried beside the list: members of nest mates, abstract methods, casts -/
def gNest : Cond → Bool
  | .fieldLinkNest .. => true
  | .methodLinkNest .. => true
  | .declares _ => true
  | .castable .. => true
  | _ => false
theorem gNest_on {w : Cond} (h : gNest w = true) : w.onTables = true := by
  cases w <;> first | rfl | (simp [gNest] at h)
theorem gNest_warm {w : Cond} (h : gNest w = true) {s U : State} (hW : s.WarmedH U.vm) (hZ : va_Nw w s) : va_Nw w U := by
  cases w with
  | fieldLinkNest => exact va_Nw.warmF hW hZ
  | methodLinkNest => exact va_Nw.warmM hW hZ
  | declares => exact va_Nw.warmD hW hZ
  | castable => exact va_Nw.warmC hW hZ
  | _ => simp [gNest] at h
/-- the context: class numbers and slots; array classes; the cells that may be written; enum constants; the Integer cache's boxes, its array; ArrayList's empty array -/
abbrev gCx : Type := va_G × (Nat → ClassId) × (Nat → Prop) × (Nat → Nat) × (Nat → Nat) × Nat × Nat
abbrev cxD (X : gCx) : va_G := X.1
abbrev cxB (X : gCx) : Nat → ClassId := X.2.1
abbrev cxA (X : gCx) : Nat → Prop := X.2.2.1
abbrev cxE (X : gCx) : Nat → Nat := X.2.2.2.1
abbrev cxI (X : gCx) : Nat → Nat := X.2.2.2.2.1
abbrev cxC (X : gCx) : Nat := X.2.2.2.2.2.1
abbrev cxZ (X : gCx) : Nat := X.2.2.2.2.2.2
abbrev cxTys (X : gCx) : List (ClassId × FieldType) := [(cxB X 0, .int), (cxB X 1, .boolean), (cxB X 2, .object "FourWayKernel$Processor"), (cxB X 3, .object "FourWayKernel$Group"), (cxB X 4, .object "java/lang/Object")]
abbrev gPhases : List String := ["LOOK", "TOP", "LEAF", "TICKET", "WAIT", "CHECK", "CHANGE", "SEND", "AWAIT", "RELEASE", "UNLOCK", "MOVE"]
abbrev gPhF : List (String × String × String × List Int32) := [("java/lang/Enum", "ordinal", "I", [0, 1, 2, 3, 4, 5, 6, 7, 8, 9, 10, 11]), ("FourWayKernel$Phase", "code", "I", [4, 5, 6, 7, 8, 9, 10, 11, 12, 13, 14, 15])]
/-- what is never written: the constants -/
def gC (X : gCx) (U : State) (H : Heap) : Prop :=
  va_En "FourWayKernel$Phase" "LFourWayKernel$Phase;" gPhases gPhF (cxE X) (cxA X) U H ∧ vb_C (cxI X) (cxA X) U H ∧ va_Z "java/lang/Integer$IntegerCache" "high" "I" (.int 127) (cxA X) U H ∧
  va_Z "java/lang/Integer$IntegerCache" "cache" "[Ljava/lang/Integer;" (.ref (cxC X)) (cxA X) U H ∧ va_T (.object "java/lang/Integer") (cxC X) 256 (fun j => .ref (cxI X j)) (cxA X) U H ∧
  va_Z "java/util/ArrayList" "DEFAULTCAPACITY_EMPTY_ELEMENTDATA" "[Ljava/lang/Object;" (.ref (cxZ X)) (cxA X) U H ∧ va_T (.object "java/lang/Object") (cxZ X) 0 (fun _ => .null) (cxA X) U H
theorem gC_moved {X : gCx} {u U : State} {H : Heap} (hvm : u.vm.Alike U.vm) (h : gC X u H) : gC X U H := by
  obtain ⟨h1, h2, h3, h4, h5, h6, h7⟩ := h
  exact ⟨va_En.moved hvm h1, vb_C.moved hvm h2, va_Z.moved hvm h3, va_Z.moved hvm h4, va_T.moved hvm h5, va_Z.moved hvm h6, va_T.moved hvm h7⟩
theorem gC_kept {X : gCx} {U : State} {H H1 : Heap} (h : gC X U H) (hq : ∀ a : Nat, a < H.size → ¬ cxA X a → H1[a]? = H[a]?) : gC X U H1 := by
  obtain ⟨h1, h2, h3, h4, h5, h6, h7⟩ := h
  exact ⟨h1.kept hq, h2.kept hq, h3.kept hq, h4.kept hq, h5.kept hq, h6.kept hq, h7.kept hq⟩
/-- the tables at a state -/
def gT (X : gCx) (U : State) : Prop :=
  va_K (cxD X) classes (cxTys X) U ∧ (∀ w ∈ lw_tbl, gNest w = true → va_Nw w U) ∧ (va_AO "FourWayKernel$Processor" U ∧ va_AO "FourWayKernel$Group" U ∧ va_AO "java/lang/Object" U) ∧
  (va_Nc "FourWayKernel$Access" "FourWayKernel$Move" U ∧ va_Nc "FourWayKernel$Grant" "FourWayKernel$Move" U ∧ va_Nc "FourWayKernel$Revoke" "FourWayKernel$Move" U) ∧ gC X U U.heap
theorem gT_warm {X : gCx} {s U : State} (hW : s.WarmedH U.vm) (hq : ∀ a : Nat, a < s.heap.size → ¬ cxA X a → U.heap[a]? = s.heap[a]?) (h : gT X s) : gT X U := by
  obtain ⟨h1, h2, ⟨h3, h4, h5⟩, ⟨h6, h7, h8⟩, h9⟩ := h
  have hvm := hW.alike
  exact ⟨va_K.moved hvm h1, fun w hw hn => gNest_warm hn hW (h2 w hw hn), ⟨va_AO.moved hvm h3, va_AO.moved hvm h4, va_AO.moved hvm h5⟩, ⟨va_Nc.moved hvm h6, va_Nc.moved hvm h7, va_Nc.moved hvm h8⟩, gC_moved hvm (gC_kept h9 hq)⟩
theorem gT_same {X : gCx} {u U : State} (hvm : u.vm = U.vm) (hh : u.heap = U.heap) (h : gT X u) : gT X U := by
  obtain ⟨h1, h2, ⟨h3, h4, h5⟩, ⟨h6, h7, h8⟩, h9⟩ := h
  have ha : u.vm.Alike U.vm := by rw [hvm]; exact Vm.Alike.refl _
  refine ⟨va_K.moved ha h1, fun w hw hn => va_Nw.same (gNest_on hn) hvm (h2 w hw hn), ⟨va_AO.moved ha h3, va_AO.moved ha h4, va_AO.moved ha h5⟩, ⟨va_Nc.moved ha h6, va_Nc.moved ha h7, va_Nc.moved ha h8⟩, ?_⟩
  rw [← hh]
  exact gC_moved ha h9
/-- a method: its name, its code, its locals, its return type -/
abbrev gMd : Type := MethodName × ByteArray × Nat × Option FieldType
def gRm (d mc ms : Nat) : Room := { frames := d, cells := mc, slots := ms, locals := 28 * d }
/-- a contract: called with av where the heap holds x, the method returns, and Po holds of its answer and of what the heap holds then -/
def gQc {σ : Type} (X : gCx) (Hd : σ → Heap → Prop) (Po : Option Value → σ → Prop) : Array Value → State → Outcome → State → Prop := fun _ st oc t => (∃ (r : Option Value) (x' : σ), oc = .returned r ∧ Po r x' ∧ Hd x' t.heap) ∧ va_F (cxA X) st t
def gM {σ : Type} (X : gCx) (l : Launch) (Hd : σ → Heap → Prop) (M : gMd) (d mc ms : Nat) (av : List Value) (x : σ) (Po : Option Value → σ → Prop) : Prop :=
  Met l M.1 (Cond.code M.1 M.2.1 M.2.2.1 M.2.2.2 :: gtbl) (gRm d mc ms) (va_Pc av (fun U => Hd x U.heap ∧ gT X U ∧ ∀ q, U.heap.size ≤ q → cxA X q)) (gQc X Hd Po) mc ms (cxA X)
/-- an end that fits the method's return type -/
def gEnd (M : gMd) (pc : Nat) (r : Option Value) (st : List Value) : Prop :=
  (decode M.2.1 pc = .ok (.ireturn, 1) ∧ ∃ (v : Int32) (ty : FieldType), M.2.2.2 = some ty ∧ narrow ty (.int v) = .int v ∧ r = some (.int v) ∧ st = [.int v]) ∨
  (decode M.2.1 pc = .ok (.areturn, 1) ∧ ∃ (v : Value) (ty : FieldType), M.2.2.2 = some ty ∧ ((∃ n, ty = .object n) ∨ ∃ t, ty = .array t) ∧ (v = .null ∨ ∃ a, v = .ref a) ∧ r = some v ∧ st = [v]) ∨
  (decode M.2.1 pc = .ok (.return_, 1) ∧ M.2.2.2 = none ∧ r = none ∧ st = [])
def Good {σ : Type} (X : gCx) (l : Launch) (Hd : σ → Heap → Prop) (M : gMd) (d : Nat) (Po : Option Value → σ → Prop) (K : Nat → List (Nat × Value) → List Value → σ → Nat → Nat → Prop) : Prop :=
  ∃ (p : Program) (e : Env) (R : Room) (s : State) (m : MethodId) (args : Array Value) (below : List Frame) (meth : Method) (c : Code) (Q : State → Prop),
    CallFix p m c M.2.1 M.2.2.1 s args gtbl M.1.cls ∧ (gT X s ∧ ∀ q, s.heap.size ≤ q → cxA X q) ∧ (d ≤ R.frames ∧ 28 * d ≤ R.locals) ∧ meth.name = M.1.name ∧
    (∀ (pc : Nat) (r : Option Value) (st : List Value) (x : σ) (H : Heap) (locs : List Loc) (ls : Array Slot) (cells slots : Nat), gEnd M pc r st → Po r x → Hd x H → va_S (cxA X) s.heap H locs → cells ≤ R.cells → slots ≤ R.slots → W p l e R s m args below meth c H locs cells slots Q (F0 m pc ls st)) ∧
    K = fun pc lv st x kc ks => ∀ (H : Heap) (locs : List Loc) (ls : Array Slot) (cells slots : Nat), Hd x H → va_S (cxA X) s.heap H locs → lv_has ls M.2.2.1 lv → cells + kc ≤ R.cells → slots + ks ≤ R.slots → W p l e R s m args below meth c H locs cells slots Q (F0 m pc ls st)
set_option maxHeartbeats 4000000 in
/-- a contract out of a walk -/
theorem gM_intro {σ : Type} {X : gCx} {l : Launch} {Hd : σ → Heap → Prop} {M : gMd} {d mc ms : Nat} {av : List Value} {x : σ} {Po : Option Value → σ → Prop} (hy : plainName M.1.cls = true) (hl : (lg_sl av).length ≤ M.2.2.1)
    (h : ∀ K, Good X l Hd M d Po K → K 0 (lv_args 0 av) [] x mc ms) : gM X l Hd M d mc ms av x Po := by
  refine Met.ofW (cc := M.2.1) (maxL := M.2.2.1) (ret := M.2.2.2) hy rfl ?_
  intro p e s m args below meth c s₁ B hml hv
  obtain ⟨rfl, hH, hT, hA⟩ := hv
  have hr := B.returns
  have hx := B.exec
  have hb := B.bytes
  have hts0 := atoms_spec (ws := Cond.code M.1 M.2.1 M.2.2.1 M.2.2.2 :: gtbl) B.pre
  have hts : ∀ w ∈ gtbl, w.before av.toArray s = true := fun w hw => hts0 w (List.mem_cons_of_mem _ hw)
  have hown : s.vm.findClass M.1.cls = some m.cls := findClass_of_methodNamed B.named
  have hlocks := B.notSynchronized
  have hnm : meth.name = M.1.name := (name_of_methodNamed B.named B.method).1
  have hG : Good X l Hd M d Po (fun pc lv st x kc ks => ∀ (H : Heap) (locs : List Loc) (ls : Array Slot) (cells slots : Nat), Hd x H → va_S (cxA X) s.heap H locs → lv_has ls M.2.2.1 lv → cells + kc ≤ mc → slots + ks ≤ ms → W p l e (gRm d mc ms) s m av.toArray below meth c H locs cells slots (MQ below (gQc X Hd Po) av.toArray s mc ms (cxA X)) (F0 m pc ls st)) := by
    refine ⟨p, e, gRm d mc ms, s, m, av.toArray, below, meth, c, MQ below (gQc X Hd Po) av.toArray s mc ms (cxA X), ⟨hx, hb, hml, hown, hts⟩, ⟨hT, hA⟩, ⟨Nat.le_refl _, Nat.le_refl _⟩, hnm, ?_, rfl⟩
    intro pc r st x' H locs ls cells slots hE hP hH' hS h1 h2
    refine W.widen (k := mc) (n := ms) h1 h2 ?_
    rcases hE with ⟨hd, v, ty, h3, h4, rfl, rfl⟩ | ⟨hd, v, ty, h3, h4, h5, rfl, rfl⟩ | ⟨hd, h3, rfl, rfl⟩
    · exact W.zret (ty := ty) hx hb (hr.trans h3) h4 (fun t ht hW => ⟨⟨_, x', rfl, hP, by rw [ht]; exact hH'⟩, hS.F ht⟩) hS.2.2 hd
    · exact W.aret (rt := ty) hx hb (hr.trans h3) h4 h5 (fun t ht hW => ⟨⟨_, x', rfl, hP, by rw [ht]; exact hH'⟩, hS.F ht⟩) hS.2.2 hd
    · exact W.vret hx hb (hr.trans h3) (fun t ht hW => ⟨⟨_, x', rfl, hP, by rw [ht]; exact hH'⟩, hS.F ht⟩) hS.2.2 hd
  have key := h _ hG s.heap [] ((lg_sl av ++ List.replicate (M.2.2.1 - (lg_sl av).length) Slot.unset).toArray) 0 0 hH va_S.rf (lv_entry av hl) (by rw [Nat.zero_add]; exact Nat.le_refl mc) (by rw [Nat.zero_add]; exact Nat.le_refl ms)
  rw [lg_entry_eq]
  exact key
