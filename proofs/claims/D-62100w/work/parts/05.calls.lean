/-! calls -/
section CALLS
variable {p : Program} {l : Launch} {e : Env} {R : Room} {s : State} {m : MethodId} {args : Array Value} {below : List Frame} {meth : Method} {c : Code} {H : Heap} {locs : List Loc} {cells slots : Nat} {Q : State → Prop}
variable {pc : Nat} {ls : Array Slot} {rest st0 : List Value} {a : Array Value} {mc ms : Nat}
theorem gRun_go {σ : Type} {X X0 : gCx} {Hd : σ → Heap → Prop} {Po : Option Value → σ → Prop} (hr : va_Run p l e R s m args below meth c H locs cells slots mc ms (F0 m pc ls st0) rest (gQc X Hd Po a) (cxA X)) (hS : va_S (cxA X0) s.heap H locs) (hA : ∀ q, cxA X q → cxA X0 q)
    (kk : ∀ (r : Option Value) (x' : σ) (H1 : Heap) (locs1 : List Loc), Po r x' → Hd x' H1 → H.size ≤ H1.size → (∀ q : Nat, q < H.size → ¬ cxA X q → H1[q]? = H[q]?) → va_S (cxA X0) s.heap H1 locs1 → W p l e R s m args below meth c H1 locs1 (cells + mc) (slots + ms) Q (F0 m (pc + 3) ls (r.toList ++ rest))) : W p l e R s m args below meth c H locs cells slots Q (F0 m pc ls st0) := by
  intro T hT X1
  obtain ⟨v, st₀, t, T', L, h0, X', hL, e1, e2, ⟨⟨r, x', hv, hp, hb⟩, hz, hk⟩, st⟩ := hr T hT X1
  cases hv
  rw [h0] at hz hk
  obtain ⟨t2, a1, b1⟩ := kk v x' T'.heap (locs ++ L) hp (by rw [e1]; exact hb) (by rw [e1]; exact hz) (fun q h1 h2 => by rw [e1]; exact hk q h1 h2)
    ⟨Nat.le_trans hS.1 (by rw [e1]; exact hz), fun q h1 h2 => by rw [e1, hk q (Nat.lt_of_lt_of_le h1 hS.1) (fun z => h2 (hA q z))]; exact hS.2.1 q h1 h2, fun q hq => by
      rcases List.mem_append.mp hq with h | h
      · exact hS.2.2 q h
      · exact hA _ (hL q h)⟩ T' rfl X'
  exact ⟨t2, st t2 a1, b1⟩
end CALLS
/-- what a callee brings, whoever calls it -/
def gNm (M : gMd) (n : Nat) : Prop := M.1.cls ≠ "java/lang/invoke/MethodHandle" ∧ M.1.cls ≠ "java/lang/invoke/VarHandle" ∧ (parseMethodDescriptor M.1.desc).map (fun d => d.parameters.length) = some n
def gCd (M : gMd) (n : Nat) : Prop := Cond.code M.1 M.2.1 M.2.2.1 M.2.2.2 ∈ gtbl ∧ gNm M n ∧ M.2.2.1 ≤ 9 ∧ Cond.initialized M.1.cls ∈ gtbl
def gCv (M : gMd) (n : Nat) : Prop := gCd M n ∧ Cond.instanceMethod M.1 ∈ gtbl ∧ Cond.selects M.1.cls M.1 M.1 ∈ gtbl
def gCs (M : gMd) (n : Nat) : Prop := gCd M n ∧ Cond.static M.1 ∈ gtbl
def gCi (M : gMd) (n : Nat) : Prop := gCd M n ∧ Cond.instanceMethod M.1 ∈ gtbl ∧ M.1.name = "<init>" ∧ M.2.2.2 = none
/-- a call of a method that the receiver's class selects for one that is named otherwise -/
def gCu (M : gMd) (n : Nat) (C owner : String) (x : MethodName) : Prop := gCd M n ∧ Cond.sameMethod x.cls owner x.name x.desc ∈ gtbl ∧ Cond.selects C x M.1 ∈ gtbl ∧ Cond.instanceMethod M.1 ∈ gtbl ∧ Cond.declares ⟨owner, x.name, x.desc⟩ ∈ lw_tbl ∧ owner ≠ "java/lang/invoke/MethodHandle" ∧ owner ≠ "java/lang/invoke/VarHandle" ∧ (parseMethodDescriptor x.desc).map (fun d => d.parameters.length) = some n
theorem gGood4 {Ts ws : List Cond} {w1 w2 w3 w4 : Cond} (h1 : w1 ∈ gtbl) (h2 : w2 ∈ gtbl) (h3 : w3 ∈ gtbl) (h4 : w4 ∈ gtbl) (hG : GoodIn gtbl ws) (hT : Ts = [w1, w2, w3, w4] ++ ws) : GoodIn gtbl Ts := by
  subst hT
  intro w hw
  rcases List.mem_append.mp hw with hw | hw
  · simp only [List.mem_cons, List.not_mem_nil, or_false] at hw
    rcases hw with rfl | rfl | rfl | rfl
    · exact ⟨h1, gtbl_good h1⟩
    · exact ⟨h2, gtbl_good h2⟩
    · exact ⟨h3, gtbl_good h3⟩
    · exact ⟨h4, gtbl_good h4⟩
  · exact hG w hw
/-- the receiver is an object of class C -/
def gRecv {σ : Type} (X : gCx) (Hd : σ → Heap → Prop) (x : σ) (b : Nat) (C : String) : Prop := ∀ (s : State) (H : Heap) (locs : List Loc), gT X s → va_S (cxA X) s.heap H locs → Hd x H → ∃ cell : Cell, H[b]? = some cell ∧ cell.vm.isStatics = false ∧ s.vm.findClass C = some cell.cls
/-- the callee's world within the caller's: its context, what it holds, and how the caller's is had back -/
def gSub {σ τ : Type} (X X' : gCx) (Hd : σ → Heap → Prop) (Hd' : τ → Heap → Prop) (x : σ) (y : τ) (back : τ → σ) : Prop :=
  (∀ U : State, gT X U → (∀ q, U.heap.size ≤ q → cxA X q) → Hd x U.heap → gT X' U ∧ ∀ q, U.heap.size ≤ q → cxA X' q) ∧ (∀ q, cxA X' q → cxA X q) ∧ (∀ H : Heap, Hd x H → Hd' y H) ∧
  ∀ (H H1 : Heap) (y' : τ), Hd x H → H.size ≤ H1.size → (∀ q : Nat, q < H.size → ¬ cxA X' q → H1[q]? = H[q]?) → Hd' y' H1 → Hd (back y') H1
theorem gSub_rf {σ : Type} {X : gCx} {Hd : σ → Heap → Prop} {x : σ} : gSub X X Hd Hd x x (fun y => y) :=
  ⟨fun _ h1 h2 _ => ⟨h1, h2⟩, fun _ h => h, fun _ h => h, fun _ _ _ _ _ _ h => h⟩
section ROWS5
variable {σ τ : Type} {X X' : gCx} {l : Launch} {Hd : σ → Heap → Prop} {Hd' : τ → Heap → Prop} {M M' : gMd} {d d' mc ms n : Nat} {Po : Option Value → σ → Prop} {Po' : Option Value → τ → Prop} {K : Nat → List (Nat × Value) → List Value → σ → Nat → Nat → Prop} {pc kc ks i b : Nat} {lv : List (Nat × Value)} {st As : List Value} {x : σ} {y : τ} {back : τ → σ}
theorem gPre {s : State} {H : Heap} {locs : List Loc} {av : List Value} (hG : gSub X X' Hd Hd' x y back) (hT : gT X s) (hA : ∀ q, s.heap.size ≤ q → cxA X q) (hS : va_S (cxA X) s.heap H locs) (hH : Hd x H) : PreS s H (va_Pc av (fun U => Hd' y U.heap ∧ gT X' U ∧ ∀ q, U.heap.size ≤ q → cxA X' q)) av := by
  refine ⟨fun a U g mk q => ?_, fun U hU hW => ?_⟩
  · obtain ⟨q0, q1, q2, q3⟩ := q
    exact ⟨q0, q1, gT_same (u := U) (U := U.calling g mk a) rfl rfl q2, q3⟩
  · have hTU : gT X U := gT_warm hW (fun q h1 h2 => by rw [hU]; exact hS.2.1 q h1 h2) hT
    obtain ⟨g1, g2⟩ := hG.1 U hTU (fun q hq => hA q (Nat.le_trans hS.1 (by rw [← hU]; exact hq))) (by rw [hU]; exact hH)
    exact ⟨rfl, by rw [hU]; exact hG.2.2.1 H hH, g1, g2⟩
theorem r_callV' (hK : Good X l Hd M d Po K) (hc : gM X' l Hd' M' d' mc ms (.ref b :: As) y Po') (hG : gSub X X' Hd Hd' x y back) (hd : decode M.2.1 pc = .ok (.invokevirtual i, 3)) (hw : Cond.methodLink M.1.cls i M'.1 ∈ gtbl) (hv : gCv M' n) (hn : As.length = n) (hdd : d' + 1 ≤ d) (hrv : gRecv X Hd x b M'.1.cls) (hst : (st.map fun v => v.category).sum ≤ 8)
    (k : ∀ (r : Option Value) (y' : τ), Po' r y' → K (pc + 3) lv (r.toList ++ st) (back y') kc ks) {st0 : List Value} (hs0 : st0 = As.reverse ++ .ref b :: st) : K pc lv st0 x (kc + mc) (ks + ms) := by
  obtain ⟨p, e, R, s, m, args, below, meth, c, Q, ⟨hx, hb, hml, hown, hts⟩, ⟨hT, hA⟩, ⟨hfr, hlo⟩, hnm, hret, rfl⟩ := hK
  intro H locs ls cells slots hH hS hl h1 h2
  obtain ⟨⟨g1, ⟨g2, g3, g4⟩, g5, g6⟩, g7, g8⟩ := hv
  have hp := gPre (av := .ref b :: As) hG hT hA hS hH
  subst hs0
  refine gRun_go (X := X') (X0 := X) (va_runV (As := As) (rest := st) (C := M'.1.cls) ⟨hx, hb, hml, hown, hts⟩ hc (cwV n hts (gGood4 hw g7 g8 g6 (gtbl_sub (fun _ h => h) g1) rfl) rfl rfl rfl ⟨rfl, g2, g3, g4⟩ ⟨by show d' + 1 ≤ _; omega, by show 8 + (M'.2.2.1 + 11) + 28 * d' ≤ _; omega⟩) ⟨hp.1, hrv s H locs hT hS hH, hp.2⟩ rfl hn hl.1 rfl (lv_room hst) hd ⟨by omega, by omega⟩) hS hG.2.1 (fun r y' H1 locs1 hP hH1 hz hk hS1 => ?_)
  exact k r y' hP H1 locs1 ls _ _ (hG.2.2.2 H H1 y' hH hz hk hH1) hS1 hl (by omega) (by omega)
theorem r_callS' (hK : Good X l Hd M d Po K) (hc : gM X' l Hd' M' d' mc ms As y Po') (hG : gSub X X' Hd Hd' x y back) (hd : decode M.2.1 pc = .ok (.invokestatic i, 3)) (hw : Cond.methodLink M.1.cls i M'.1 ∈ gtbl) (hv : gCs M' n) (hn : As.length = n) (hdd : d' + 1 ≤ d) (hst : (st.map fun v => v.category).sum ≤ 8)
    (k : ∀ (r : Option Value) (y' : τ), Po' r y' → K (pc + 3) lv (r.toList ++ st) (back y') kc ks) {st0 : List Value} (hs0 : st0 = As.reverse ++ st) : K pc lv st0 x (kc + mc) (ks + ms) := by
  obtain ⟨p, e, R, s, m, args, below, meth, c, Q, ⟨hx, hb, hml, hown, hts⟩, ⟨hT, hA⟩, ⟨hfr, hlo⟩, hnm, hret, rfl⟩ := hK
  intro H locs ls cells slots hH hS hl h1 h2
  obtain ⟨⟨g1, ⟨g2, g3, g4⟩, g5, g6⟩, g7⟩ := hv
  have hp := gPre (av := As) hG hT hA hS hH
  subst hs0
  refine gRun_go (X := X') (X0 := X) (va_runS (As := As) (rest := st) ⟨hx, hb, hml, hown, hts⟩ hc ⟨callB_of n hts (gtbl_sub (fun _ h => h) g1) rfl rfl rfl (hts _ g6) (hts _ hw) ⟨g2, g3, g4⟩ ⟨by show d' + 1 ≤ _; omega, by show 8 + (M'.2.2.1 + 11) + 28 * d' ≤ _; omega⟩, hts _ g7⟩ hp rfl hn hl.1 rfl (lv_room hst) hd ⟨by omega, by omega⟩) hS hG.2.1 (fun r y' H1 locs1 hP hH1 hz hk hS1 => ?_)
  exact k r y' hP H1 locs1 ls _ _ (hG.2.2.2 H H1 y' hH hz hk hH1) hS1 hl (by omega) (by omega)
theorem r_callI' (hK : Good X l Hd M d Po K) (hc : gM X' l Hd' M' d' mc ms (.ref b :: As) y Po') (hG : gSub X X' Hd Hd' x y back) (hd : decode M.2.1 pc = .ok (.invokespecial i, 3)) (hw : Cond.methodLink M.1.cls i M'.1 ∈ gtbl) (hv : gCi M' n) (hn : As.length = n) (hdd : d' + 1 ≤ d) (hst : (st.map fun v => v.category).sum ≤ 8)
    (k : ∀ (r : Option Value) (y' : τ), Po' r y' → K (pc + 3) lv (r.toList ++ st) (back y') kc ks) {st0 : List Value} (hs0 : st0 = As.reverse ++ .ref b :: st) : K pc lv st0 x (kc + mc) (ks + ms) := by
  obtain ⟨p, e, R, s, m, args, below, meth, c, Q, ⟨hx, hb, hml, hown, hts⟩, ⟨hT, hA⟩, ⟨hfr, hlo⟩, hnm, hret, rfl⟩ := hK
  intro H locs ls cells slots hH hS hl h1 h2
  obtain ⟨⟨g1, ⟨g2, g3, g4⟩, g5, g6⟩, g7, g8, g9⟩ := hv
  have hp := gPre (av := .ref b :: As) hG hT hA hS hH
  subst hs0
  obtain ⟨y0, bt, nL, rt⟩ := M'
  dsimp only at g1 g2 g3 g4 g5 g6 g7 g8 g9 hw
  subst g9
  refine gRun_go (X := X') (X0 := X) (va_runI (As := As) (rest := st) ⟨hx, hb, hml, hown, hts⟩ hc (cwI n hts (gtbl_sub (fun _ h => h) g1) rfl rfl rfl (hts _ g6) (hts _ hw) (hts _ g7) g8 ⟨g2, g3, g4⟩ ⟨by show d' + 1 ≤ _; omega, by show 8 + (nL + 11) + 28 * d' ≤ _; omega⟩) hp rfl hn hl.1 rfl (lv_room hst) hd ⟨by omega, by omega⟩) hS hG.2.1 (fun r y' H1 locs1 hP hH1 hz hk hS1 => ?_)
  exact k r y' hP H1 locs1 ls _ _ (hG.2.2.2 H H1 y' hH hz hk hH1) hS1 hl (by omega) (by omega)
theorem r_callN' (hK : Good X l Hd M d Po K) (hc : gM X' l Hd' M' d' mc ms (.ref b :: As) y Po') (hG : gSub X X' Hd Hd' x y back) (hd : decode M.2.1 pc = .ok (.invokespecial i, 3)) {host : String} (hw : Cond.methodLinkNest M.1.cls i M'.1 host ∈ lw_tbl) (hv : gCi M' n) (hn : As.length = n) (hdd : d' + 1 ≤ d) (hst : (st.map fun v => v.category).sum ≤ 8)
    (k : ∀ (r : Option Value) (y' : τ), Po' r y' → K (pc + 3) lv (r.toList ++ st) (back y') kc ks) {st0 : List Value} (hs0 : st0 = As.reverse ++ .ref b :: st) : K pc lv st0 x (kc + mc) (ks + ms) := by
  obtain ⟨p, e, R, s, m, args, below, meth, c, Q, ⟨hx, hb, hml, hown, hts⟩, ⟨hT, hA⟩, ⟨hfr, hlo⟩, hnm, hret, rfl⟩ := hK
  intro H locs ls cells slots hH hS hl h1 h2
  obtain ⟨⟨g1, ⟨g2, g3, g4⟩, g5, g6⟩, g7, g8, g9⟩ := hv
  have hp := gPre (av := .ref b :: As) hG hT hA hS hH
  subst hs0
  obtain ⟨y0, bt, nL, rt⟩ := M'
  dsimp only at g1 g2 g3 g4 g5 g6 g7 g8 g9 hw
  subst g9
  refine gRun_go (X := X') (X0 := X) (va_runIN (As := As) (rest := st) ⟨hx, hb, hml, hown, hts⟩ hc ⟨va_cnB n hts (gtbl_sub (fun _ h => h) g1) rfl rfl rfl (hT.2.1 _ hw rfl) (hts _ g6) ⟨g2, g3, g4⟩ ⟨by show d' + 1 ≤ _; omega, by show 8 + (nL + 11) + 28 * d' ≤ _; omega⟩, g8, hts _ g7⟩ hp rfl hn hl.1 rfl (lv_room hst) hd ⟨by omega, by omega⟩) hS hG.2.1 (fun r y' H1 locs1 hP hH1 hz hk hS1 => ?_)
  exact k r y' hP H1 locs1 ls _ _ (hG.2.2.2 H H1 y' hH hz hk hH1) hS1 hl (by omega) (by omega)
theorem r_callU' (hK : Good X l Hd M d Po K) (hc : gM X' l Hd' M' d' mc ms (.ref b :: As) y Po') (hG : gSub X X' Hd Hd' x y back) (hd : decode M.2.1 pc = .ok (.invokevirtual i, 3)) {C owner : String} {z : MethodName} (hw : Cond.methodLink M.1.cls i z ∈ gtbl) (hv : gCu M' n C owner z) (hn : As.length = n) (hdd : d' + 1 ≤ d) (hrv : gRecv X Hd x b C) (hst : (st.map fun v => v.category).sum ≤ 8)
    (k : ∀ (r : Option Value) (y' : τ), Po' r y' → K (pc + 3) lv (r.toList ++ st) (back y') kc ks) {st0 : List Value} (hs0 : st0 = As.reverse ++ .ref b :: st) : K pc lv st0 x (kc + mc) (ks + ms) := by
  obtain ⟨p, e, R, s, m, args, below, meth, c, Q, ⟨hx, hb, hml, hown, hts⟩, ⟨hT, hA⟩, ⟨hfr, hlo⟩, hnm, hret, rfl⟩ := hK
  intro H locs ls cells slots hH hS hl h1 h2
  obtain ⟨⟨g1, ⟨g2, g3, g4⟩, g5, g6⟩, g7, g8, g9, g10, g11⟩ := hv
  have hp := gPre (av := .ref b :: As) hG hT hA hS hH
  subst hs0
  have hGd : GoodIn gtbl (va_wsU M.1.cls i C owner z M'.1 (Cond.code M'.1 M'.2.1 M'.2.2.1 M'.2.2.2 :: gtbl)) := by
    intro w h
    rcases List.mem_append.mp h with h | h
    · simp only [List.mem_cons, List.not_mem_nil, or_false] at h
      rcases h with rfl | rfl | rfl | rfl | rfl
      · exact ⟨hw, gtbl_good hw⟩
      · exact ⟨g7, gtbl_good g7⟩
      · exact ⟨g8, gtbl_good g8⟩
      · exact ⟨g9, gtbl_good g9⟩
      · exact ⟨g6, gtbl_good g6⟩
    · exact gtbl_sub (fun _ h => h) g1 w h
  refine gRun_go (X := X') (X0 := X) (va_runU (As := As) (rest := st) (C := C) (owner := owner) (x := z) ⟨hx, hb, hml, hown, hts⟩ hc (va_cwA n hts hGd rfl rfl rfl (hT.2.1 _ g10 rfl) g11 ⟨by show d' + 1 ≤ _; omega, by show 8 + (M'.2.2.1 + 11) + 28 * d' ≤ _; omega⟩) ⟨hp.1, hrv s H locs hT hS hH, hp.2⟩ rfl hn hl.1 rfl (lv_room hst) hd ⟨by omega, by omega⟩) hS hG.2.1 (fun r y' H1 locs1 hP hH1 hz hk hS1 => ?_)
  exact k r y' hP H1 locs1 ls _ _ (hG.2.2.2 H H1 y' hH hz hk hH1) hS1 hl (by omega) (by omega)
end ROWS5
section ROWS6
variable {σ : Type} {X : gCx} {l : Launch} {Hd : σ → Heap → Prop} {M M' : gMd} {d d' mc ms n : Nat} {Po Po' : Option Value → σ → Prop} {K : Nat → List (Nat × Value) → List Value → σ → Nat → Nat → Prop} {pc kc ks i b : Nat} {lv : List (Nat × Value)} {st As : List Value} {x : σ}
theorem r_callV (hK : Good X l Hd M d Po K) (hc : gM X l Hd M' d' mc ms (.ref b :: As) x Po') (hd : decode M.2.1 pc = .ok (.invokevirtual i, 3)) (hw : Cond.methodLink M.1.cls i M'.1 ∈ gtbl) (hv : gCv M' n) (hn : As.length = n) (hdd : d' + 1 ≤ d) (hrv : gRecv X Hd x b M'.1.cls) (hst : (st.map fun v => v.category).sum ≤ 8)
    (k : ∀ (r : Option Value) (y : σ), Po' r y → K (pc + 3) lv (r.toList ++ st) y kc ks) {st0 : List Value} (hs0 : st0 = As.reverse ++ .ref b :: st) : K pc lv st0 x (kc + mc) (ks + ms) := r_callV' (back := fun y => y) hK hc gSub_rf hd hw hv hn hdd hrv hst k hs0
theorem r_callS (hK : Good X l Hd M d Po K) (hc : gM X l Hd M' d' mc ms As x Po') (hd : decode M.2.1 pc = .ok (.invokestatic i, 3)) (hw : Cond.methodLink M.1.cls i M'.1 ∈ gtbl) (hv : gCs M' n) (hn : As.length = n) (hdd : d' + 1 ≤ d) (hst : (st.map fun v => v.category).sum ≤ 8)
    (k : ∀ (r : Option Value) (y : σ), Po' r y → K (pc + 3) lv (r.toList ++ st) y kc ks) {st0 : List Value} (hs0 : st0 = As.reverse ++ st) : K pc lv st0 x (kc + mc) (ks + ms) := r_callS' (back := fun y => y) hK hc gSub_rf hd hw hv hn hdd hst k hs0
theorem r_callI (hK : Good X l Hd M d Po K) (hc : gM X l Hd M' d' mc ms (.ref b :: As) x Po') (hd : decode M.2.1 pc = .ok (.invokespecial i, 3)) (hw : Cond.methodLink M.1.cls i M'.1 ∈ gtbl) (hv : gCi M' n) (hn : As.length = n) (hdd : d' + 1 ≤ d) (hst : (st.map fun v => v.category).sum ≤ 8)
    (k : ∀ (r : Option Value) (y : σ), Po' r y → K (pc + 3) lv (r.toList ++ st) y kc ks) {st0 : List Value} (hs0 : st0 = As.reverse ++ .ref b :: st) : K pc lv st0 x (kc + mc) (ks + ms) := r_callI' (back := fun y => y) hK hc gSub_rf hd hw hv hn hdd hst k hs0
theorem r_callN (hK : Good X l Hd M d Po K) (hc : gM X l Hd M' d' mc ms (.ref b :: As) x Po') (hd : decode M.2.1 pc = .ok (.invokespecial i, 3)) {host : String} (hw : Cond.methodLinkNest M.1.cls i M'.1 host ∈ lw_tbl) (hv : gCi M' n) (hn : As.length = n) (hdd : d' + 1 ≤ d) (hst : (st.map fun v => v.category).sum ≤ 8)
    (k : ∀ (r : Option Value) (y : σ), Po' r y → K (pc + 3) lv (r.toList ++ st) y kc ks) {st0 : List Value} (hs0 : st0 = As.reverse ++ .ref b :: st) : K pc lv st0 x (kc + mc) (ks + ms) := r_callN' (back := fun y => y) hK hc gSub_rf hd hw hv hn hdd hst k hs0
theorem r_callU (hK : Good X l Hd M d Po K) (hc : gM X l Hd M' d' mc ms (.ref b :: As) x Po') (hd : decode M.2.1 pc = .ok (.invokevirtual i, 3)) {C owner : String} {z : MethodName} (hw : Cond.methodLink M.1.cls i z ∈ gtbl) (hv : gCu M' n C owner z) (hn : As.length = n) (hdd : d' + 1 ≤ d) (hrv : gRecv X Hd x b C) (hst : (st.map fun v => v.category).sum ≤ 8)
    (k : ∀ (r : Option Value) (y : σ), Po' r y → K (pc + 3) lv (r.toList ++ st) y kc ks) {st0 : List Value} (hs0 : st0 = As.reverse ++ .ref b :: st) : K pc lv st0 x (kc + mc) (ks + ms) := r_callU' (back := fun y => y) hK hc gSub_rf hd hw hv hn hdd hrv hst k hs0
end ROWS6
