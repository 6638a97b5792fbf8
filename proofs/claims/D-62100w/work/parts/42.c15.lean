theorem cS_lineInit {X : gCx} {l : Launch} {s : sS} (a : Nat) : gMv X l (HoldP X (Abs X)) M_Line_init 1 0 0 [.ref a] s s :=
  gM_lift (fun g hA => gM_mono (c_Line_init X l g a) (fun r y hr => by obtain ⟨rfl, rfl⟩ := hr; exact ⟨s, ⟨rfl, rfl⟩, hA⟩))
set_option maxHeartbeats 1000000 in
theorem c_Processor_init (X : gCx) (l : Launch) (s : sS) (p q q1 q2 : Nat) (n : Int32) (hp : gk s.1 p = 3) (hq : gx s.1 = q) (h1 : q + 1 = q1) (h2 : q1 + 1 = q2) (n0 : p ≠ q) (n1 : p ≠ q1) (n2 : p ≠ q2) : gMv X l (HoldP X (Abs X)) M_Processor_init 2 3 8 [.ref p, .int n] s (sSetI (sSetR (sNew (sSetR (sNew (sSetR (sNewA s 0 2) 14 p (some q)) 3) 16 p (some q1)) 3) 17 p (some q2)) 11 p n) := by
  refine gM_intro (by decide) (Nat.le_of_ble_eq_true rfl) (fun K hK => ?_)
  show K 0 [(0, .ref p), (1, .int n)] [] s 3 8
  refine r_aload_n hK d_Processor_init_0 rfl 0 rfl ?_
  refine r_objInit hK d_Processor_init_1 ml_Processor_3 ow_1 ow_2 (by decide) (by decide) ?_
  refine r_aload_n hK d_Processor_init_4 rfl 0 rfl ?_
  refine r_iconst (v := nI 2) hK d_Processor_init_5 (by decide) ?_
  refine p_newi (t := 0) (n := 2) (a := q) hK d_Processor_init_6 (by decide) rfl aw_int rfl (by decide) (fun g h => h.newA hq) ?_
  refine p_putFR (k := 3) (f := 14) (v := some q) hK d_Processor_init_8 k_Processor fl_Processor_9 rfl rfl (by decide) rfl rfl rfl (fun g h => ⟨h.kd (by simp [sSetI, sSetR, sSetA, sSetB, sSetQ, sSetL, sSetT, sNew, sNewA, sNewL, sPush, sBump, sBegL,  sPutT, sAddL_g, sAddL_q, sAddL_r, sAddL_l, sq, sl, sr, gSetI, gSetR, gSetA, gSetB, gNew, gNewA, up2, up1, gx, gk, gl, gi, gr, ga, gb, hq, h1, h2, n0, n1, n2, hp]) (by decide), h.setR (nz_of (k := 2) (by simp [sSetI, sSetR, sSetA, sSetB, sSetQ, sSetL, sSetT, sNew, sNewA, sNewL, sPush, sBump, sBegL,  sPutT, sAddL_g, sAddL_q, sAddL_r, sAddL_l, sq, sl, sr, gSetI, gSetR, gSetA, gSetB, gNew, gNewA, up2, up1, gx, gk, gl, gi, gr, ga, gb, hq, h1, h2, n0, n1, n2, hp])) rfl⟩) ?_
  refine r_aload_n hK d_Processor_init_11 rfl 0 rfl ?_
  refine p_new (ci := 3) (a := q1) hK d_Processor_init_12 k_Line cl_Processor_15 in_Line ii_Line (fun g h => h.new (by simp [sSetI, sSetR, sSetA, sSetB, sSetQ, sSetL, sSetT, sNew, sNewA, sNewL, sPush, sBump, sBegL,  sPutT, sAddL_g, sAddL_q, sAddL_r, sAddL_l, sq, sl, sr, gSetI, gSetR, gSetA, gSetB, gNew, gNewA, up2, up1, gx, gk, gl, gi, gr, ga, gb, hq, h1, h2, n0, n1, n2, hq]) (by decide) (by decide)) ?_
  refine r_dup hK d_Processor_init_15 rfl ?_
  refine r_callNv (As := []) (b := q1) (st := [.ref q1, .ref p]) hK (cS_lineInit (s := sNew (sSetR (sNewA s 0 2) 14 p (some q)) 3) q1) d_Processor_init_16 mn_Processor_17 ci_Line_init rfl (by decide) (Nat.le_of_ble_eq_true rfl) ?_ rfl
  refine p_putFR (k := 5) (f := 16) (v := some q1) hK d_Processor_init_19 k_Processor fl_Processor_18 rfl rfl (by decide) rfl rfl rfl (fun g h => ⟨h.kd (by simp [sSetI, sSetR, sSetA, sSetB, sSetQ, sSetL, sSetT, sNew, sNewA, sNewL, sPush, sBump, sBegL,  sPutT, sAddL_g, sAddL_q, sAddL_r, sAddL_l, sq, sl, sr, gSetI, gSetR, gSetA, gSetB, gNew, gNewA, up2, up1, gx, gk, gl, gi, gr, ga, gb, hq, h1, h2, n0, n1, n2, hp]) (by decide), h.setR (nz_of (k := 2) (by simp [sSetI, sSetR, sSetA, sSetB, sSetQ, sSetL, sSetT, sNew, sNewA, sNewL, sPush, sBump, sBegL,  sPutT, sAddL_g, sAddL_q, sAddL_r, sAddL_l, sq, sl, sr, gSetI, gSetR, gSetA, gSetB, gNew, gNewA, up2, up1, gx, gk, gl, gi, gr, ga, gb, hq, h1, h2, n0, n1, n2, hp])) rfl⟩) ?_
  refine r_aload_n hK d_Processor_init_22 rfl 0 rfl ?_
  refine p_new (ci := 3) (a := q2) hK d_Processor_init_23 k_Line cl_Processor_15 in_Line ii_Line (fun g h => h.new (by simp [sSetI, sSetR, sSetA, sSetB, sSetQ, sSetL, sSetT, sNew, sNewA, sNewL, sPush, sBump, sBegL,  sPutT, sAddL_g, sAddL_q, sAddL_r, sAddL_l, sq, sl, sr, gSetI, gSetR, gSetA, gSetB, gNew, gNewA, up2, up1, gx, gk, gl, gi, gr, ga, gb, hq, h1, h2, n0, n1, n2, hq]) (by decide) (by decide)) ?_
  refine r_dup hK d_Processor_init_26 rfl ?_
  refine r_callNv (As := []) (b := q2) (st := [.ref q2, .ref p]) hK (cS_lineInit (s := sNew (sSetR (sNew (sSetR (sNewA s 0 2) 14 p (some q)) 3) 16 p (some q1)) 3) q2) d_Processor_init_27 mn_Processor_17 ci_Line_init rfl (by decide) (Nat.le_of_ble_eq_true rfl) ?_ rfl
  refine p_putFR (k := 6) (f := 17) (v := some q2) hK d_Processor_init_30 k_Processor fl_Processor_22 rfl rfl (by decide) rfl rfl rfl (fun g h => ⟨h.kd (by simp [sSetI, sSetR, sSetA, sSetB, sSetQ, sSetL, sSetT, sNew, sNewA, sNewL, sPush, sBump, sBegL,  sPutT, sAddL_g, sAddL_q, sAddL_r, sAddL_l, sq, sl, sr, gSetI, gSetR, gSetA, gSetB, gNew, gNewA, up2, up1, gx, gk, gl, gi, gr, ga, gb, hq, h1, h2, n0, n1, n2, hp]) (by decide), h.setR (nz_of (k := 2) (by simp [sSetI, sSetR, sSetA, sSetB, sSetQ, sSetL, sSetT, sNew, sNewA, sNewL, sPush, sBump, sBegL,  sPutT, sAddL_g, sAddL_q, sAddL_r, sAddL_l, sq, sl, sr, gSetI, gSetR, gSetA, gSetB, gNew, gNewA, up2, up1, gx, gk, gl, gi, gr, ga, gb, hq, h1, h2, n0, n1, n2, hp])) rfl⟩) ?_
  refine r_aload_n hK d_Processor_init_33 rfl 0 rfl ?_
  refine r_iload_n hK d_Processor_init_34 rfl 1 rfl ?_
  refine p_putFI (k := 0) (f := 11) hK d_Processor_init_35 k_Processor fl_Processor_25 rfl rfl (by decide) rfl rfl rfl rfl rfl (fun g h => ⟨h.kd (by simp [sSetI, sSetR, sSetA, sSetB, sSetQ, sSetL, sSetT, sNew, sNewA, sNewL, sPush, sBump, sBegL,  sPutT, sAddL_g, sAddL_q, sAddL_r, sAddL_l, sq, sl, sr, gSetI, gSetR, gSetA, gSetB, gNew, gNewA, up2, up1, gx, gk, gl, gi, gr, ga, gb, hq, h1, h2, n0, n1, n2, hp]) (by decide), h.setI (nz_of (k := 2) (by simp [sSetI, sSetR, sSetA, sSetB, sSetQ, sSetL, sSetT, sNew, sNewA, sNewL, sPush, sBump, sBegL,  sPutT, sAddL_g, sAddL_q, sAddL_r, sAddL_l, sq, sl, sr, gSetI, gSetR, gSetA, gSetB, gNew, gNewA, up2, up1, gx, gk, gl, gi, gr, ga, gb, hq, h1, h2, n0, n1, n2, hp])) rfl⟩) ?_
  refine r_vret hK d_Processor_init_38 rfl ?_
  exact ⟨rfl, rfl⟩
def sProc (s : sS) (p : Nat) (n : Int32) : sS :=
  sSetI (sSetR (sNew (sSetR (sNew (sSetR (sNewA s 0 2) 14 p (some (p + 1))) 3) 16 p (some (p + 2))) 3) 17 p (some (p + 3))) 11 p n
theorem c_Processor_init' (X : gCx) (l : Launch) (s : sS) (p : Nat) (n : Int32) (hp : gk s.1 p = 3) (hq : gx s.1 = p + 1) : gMv X l (HoldP X (Abs X)) M_Processor_init 2 3 8 [.ref p, .int n] s (sProc s p n) :=
  c_Processor_init X l s p (p + 1) (p + 2) (p + 3) n hp hq rfl rfl (by omega) (by omega) (by omega)
def sAdds (X : gCx) (s : sS) (pl : Nat) : Nat → sS
  | 0 => s
  | i + 1 => sPush (sAdds X s pl i) pl (cxI X (i + 128))
theorem sAdds_g (X : gCx) (s : sS) (pl : Nat) : ∀ i, (sAdds X s pl i).1.2 = s.1.2 ∧ (sAdds X s pl i).2.2 = s.2.2 ∧ gx (sAdds X s pl i).1 = gx s.1 + i ∧ sq (sAdds X s pl i) pl = sq s pl ++ (List.range i).map (fun j => cxI X (j + 128)) ∧ ∀ a, a ≠ pl → sq (sAdds X s pl i) a = sq s a
  | 0 => ⟨rfl, rfl, rfl, by simp [sAdds], fun _ _ => rfl⟩
  | i + 1 => by
    obtain ⟨h1, h2, h3, h4, h5⟩ := sAdds_g X s pl i
    refine ⟨h1, h2, ?_, ?_, fun a ha => (up1_ne ha).trans (h5 a ha)⟩
    · show gx (sAdds X s pl i).1 + 1 = _
      rw [h3]
      omega
    · show up1 _ pl _ pl = _
      rw [up1_pos]
      show sq (sAdds X s pl i) pl ++ [_] = _
      rw [h4, List.range_succ]
      simp
/-- nothing is changed at an address -/
def SameAt (s s' : sS) (a : Nat) : Prop :=
  gk s'.1 a = gk s.1 a ∧ gl s'.1 a = gl s.1 a ∧ (∀ f, gi s'.1 f a = gi s.1 f a) ∧ (∀ f, gr s'.1 f a = gr s.1 f a) ∧ ga s'.1 a = ga s.1 a ∧ gb s'.1 a = gb s.1 a ∧ sq s' a = sq s a ∧ sl s' a = sl s a ∧ sr s' a = sr s a
theorem SameAt.rfl' {s : sS} {a : Nat} : SameAt s s a := ⟨rfl, rfl, fun _ => rfl, fun _ => rfl, rfl, rfl, rfl, rfl, rfl⟩
theorem SameAt.trans {s s' s'' : sS} {a : Nat} (h : SameAt s s' a) (h' : SameAt s' s'' a) : SameAt s s'' a :=
  ⟨h'.1.trans h.1, h'.2.1.trans h.2.1, fun f => (h'.2.2.1 f).trans (h.2.2.1 f), fun f => (h'.2.2.2.1 f).trans (h.2.2.2.1 f), h'.2.2.2.2.1.trans h.2.2.2.2.1, h'.2.2.2.2.2.1.trans h.2.2.2.2.2.1, h'.2.2.2.2.2.2.1.trans h.2.2.2.2.2.2.1, h'.2.2.2.2.2.2.2.1.trans h.2.2.2.2.2.2.2.1, h'.2.2.2.2.2.2.2.2.trans h.2.2.2.2.2.2.2.2⟩
section SAME
variable {s : sS} {a : Nat}
theorem same_setI {f b : Nat} {v : Int32} (h : a ≠ b) : SameAt s (sSetI s f b v) a := by
  refine ⟨rfl, rfl, fun k => ?_, fun _ => rfl, rfl, rfl, rfl, rfl, rfl⟩
  show up2 (gi s.1) f b v k a = _
  unfold up2
  rw [if_neg (fun z => h z.2)]
theorem same_setR {f b : Nat} {v : Option Nat} (h : a ≠ b) : SameAt s (sSetR s f b v) a := by
  refine ⟨rfl, rfl, fun _ => rfl, fun k => ?_, rfl, rfl, rfl, rfl, rfl⟩
  show up2 (gr s.1) f b v k a = _
  unfold up2
  rw [if_neg (fun z => h z.2)]
theorem same_setA {b j : Nat} {v : Int32} (h : a ≠ b) : SameAt s (sSetA s b j v) a := by
  refine ⟨rfl, rfl, fun _ => rfl, fun _ => rfl, ?_, rfl, rfl, rfl, rfl⟩
  funext q
  show up2 (ga s.1) b j v a q = _
  unfold up2
  rw [if_neg (fun z => h z.1)]
theorem same_setB {b j : Nat} {v : Option Nat} (h : a ≠ b) : SameAt s (sSetB s b j v) a := by
  refine ⟨rfl, rfl, fun _ => rfl, fun _ => rfl, rfl, ?_, rfl, rfl, rfl⟩
  funext q
  show up2 (gb s.1) b j v a q = _
  unfold up2
  rw [if_neg (fun z => h z.1)]
theorem same_new {c q : Nat} (hq : gx s.1 = q) (h : a ≠ q) : SameAt s (sNew s c) a := by
  subst hq
  exact ⟨if_neg h, rfl, fun _ => if_neg h, fun _ => if_neg h, rfl, rfl, if_neg h, rfl, if_neg h⟩
theorem same_newA {t n q : Nat} (hq : gx s.1 = q) (h : a ≠ q) : SameAt s (sNewA s t n) a := by
  subst hq
  exact ⟨if_neg h, if_neg h, fun _ => rfl, fun _ => rfl, if_neg h, if_neg h, rfl, rfl, rfl⟩
theorem same_newL {q : Nat} (hq : gx s.1 = q) (h : a ≠ q) : SameAt s (sNewL s) a := by
  subst hq
  exact ⟨if_neg h, rfl, fun _ => if_neg h, fun _ => if_neg h, rfl, rfl, rfl, rfl, rfl⟩
theorem same_begL {b : Nat} (h : a ≠ b) : SameAt s (sBegL s b) a :=
  ⟨if_neg h, rfl, fun _ => rfl, fun _ => rfl, rfl, rfl, rfl, if_neg h, rfl⟩
theorem same_setQ {b : Nat} {l : List Nat} (h : a ≠ b) : SameAt s (sSetQ s b l) a :=
  ⟨rfl, rfl, fun _ => rfl, fun _ => rfl, rfl, rfl, if_neg h, rfl, rfl⟩
theorem same_setT {b : Nat} {l : List Nat} (h : a ≠ b) : SameAt s (sSetT s b l) a :=
  ⟨rfl, rfl, fun _ => rfl, fun _ => rfl, rfl, rfl, rfl, rfl, if_neg h⟩
theorem same_push {b v : Nat} (h : a ≠ b) : SameAt s (sPush s b v) a :=
  ⟨rfl, rfl, fun _ => rfl, fun _ => rfl, rfl, rfl, if_neg h, rfl, rfl⟩
theorem same_addL {b v : Nat} (h : a ≠ b) : SameAt s (sAddL s b v) a := by
  have e1 := sAddL_g s b v
  have e2 := sAddL_q s b v
  have e3 := sAddL_r s b v
  have e4 := sAddL_l s b v
  refine ⟨?_, ?_, fun f => ?_, fun f => ?_, ?_, ?_, ?_, ?_, ?_⟩
  · show (sAddL s b v).1.2.1 a = _; rw [e1]
  · show (sAddL s b v).1.2.2.1 a = _; rw [e1]
  · show (sAddL s b v).1.2.2.2.1 f a = _; rw [e1]
  · show (sAddL s b v).1.2.2.2.2.1 f a = _; rw [e1]
  · show (sAddL s b v).1.2.2.2.2.2.1 a = _; rw [e1]
  · show (sAddL s b v).1.2.2.2.2.2.2 a = _; rw [e1]
  · show (sAddL s b v).2.1 a = _; rw [e2]
  · show (sAddL s b v).2.2.1 a = _; rw [e4]; exact if_neg h
  · show (sAddL s b v).2.2.2 a = _; rw [e3]
theorem same_putT {p t : Nat} {l : List Nat} (h : a ≠ p) (h2 : a ≠ t) : SameAt s (sPutT s p t l) a :=
  (same_setR h2).trans (same_setT h)
theorem same_adds {X : gCx} {pl i : Nat} (h : a ≠ pl) : SameAt s (sAdds X s pl i) a := by
  obtain ⟨g1, g2, g3, g4, g5⟩ := sAdds_g X s pl i
  refine ⟨?_, ?_, fun f => ?_, fun f => ?_, ?_, ?_, g5 a h, ?_, ?_⟩
  · show (sAdds X s pl i).1.2.1 a = _; rw [g1]
  · show (sAdds X s pl i).1.2.2.1 a = _; rw [g1]
  · show (sAdds X s pl i).1.2.2.2.1 f a = _; rw [g1]
  · show (sAdds X s pl i).1.2.2.2.2.1 f a = _; rw [g1]
  · show (sAdds X s pl i).1.2.2.2.2.2.1 a = _; rw [g1]
  · show (sAdds X s pl i).1.2.2.2.2.2.2 a = _; rw [g1]
  · show (sAdds X s pl i).2.2.1 a = _; rw [g2]
  · show (sAdds X s pl i).2.2.2 a = _; rw [g2]
end SAME
/-- a new processor, with its room, mail and queue behind it -/
def PF (s : sS) (p : Nat) (n : Int32) : Prop :=
  gk s.1 p = 3 ∧ gi s.1 11 p = n ∧ gi s.1 15 p = nI 0 ∧ gr s.1 14 p = some (p + 1) ∧ gr s.1 16 p = some (p + 2) ∧ gr s.1 17 p = some (p + 3) ∧ gr s.1 18 p = none ∧ gk s.1 (p + 1) = 100 ∧ gl s.1 (p + 1) = 2 ∧ gk s.1 (p + 2) = 4 ∧ gk s.1 (p + 3) = 4 ∧ sq s (p + 2) = [] ∧ sq s (p + 3) = [] ∧ sr s p = []
theorem PF.same {s s' : sS} {p : Nat} {n : Int32} (h : PF s p n) (e : ∀ a, p ≤ a → a < p + 4 → SameAt s s' a) : PF s' p n := by
  obtain ⟨h1, h2, h3, h4, h5, h6, h7, h8, h9, h10, h11, h12, h13, h14⟩ := h
  have e0 := e p (by omega) (by omega)
  have e1 := e (p + 1) (by omega) (by omega)
  have e2 := e (p + 2) (by omega) (by omega)
  have e3 := e (p + 3) (by omega) (by omega)
  exact ⟨e0.1.trans h1, (e0.2.2.1 _).trans h2, (e0.2.2.1 _).trans h3, (e0.2.2.2.1 _).trans h4, (e0.2.2.2.1 _).trans h5, (e0.2.2.2.1 _).trans h6, (e0.2.2.2.1 _).trans h7, e1.1.trans h8, e1.2.1.trans h9, e2.1.trans h10, e3.1.trans h11, e2.2.2.2.2.2.2.1.trans h12, e3.2.2.2.2.2.2.1.trans h13, e0.2.2.2.2.2.2.2.2.trans h14⟩
def PFacts (s s' : sS) (p : Nat) (n : Int32) : Prop := gx s'.1 = p + 4 ∧ (∀ a, a < p → SameAt s s' a) ∧ PF s' p n
theorem sProc_pf {s : sS} {p : Nat} {n : Int32} (hq : gx s.1 = p) : PFacts s (sProc (sNew s 2) p n) p n := by
  have q1 : gx (sNew s 2).1 = p + 1 := by show gx s.1 + 1 = _; rw [hq]
  refine ⟨by show gx s.1 + 1 + 1 + 1 + 1 = _; rw [hq], fun a ha => ?_, ?_⟩
  · unfold sProc
    refine (same_new hq (by omega)).trans ((same_newA q1 (by omega)).trans ((same_setR (by omega)).trans ((same_new (q := p + 2) (by show gx s.1 + 1 + 1 = _; rw [hq]) (by omega)).trans ((same_setR (by omega)).trans ((same_new (q := p + 3) (by show gx s.1 + 1 + 1 + 1 = _; rw [hq]) (by omega)).trans ((same_setR (by omega)).trans (same_setI (by omega))))))))
  · unfold PF sProc
    subst hq
    simp [sSetI, sSetR, sNew, sNewA, gSetI, gSetR, gNew, gNewA, up1, up2, gx, gk, gl, gi, gr, ga, gb, sq, sl, sr, Nat.add_assoc]
    rfl
def MFacts (X : gCx) (s s' : sS) (m b : Nat) : Prop :=
  gx s'.1 = b + 30 ∧ (∀ a, a < b → a ≠ m → SameAt s s' a) ∧ (gk s'.1 m = 2 ∧ gr s'.1 5 m = some b ∧ gr s'.1 6 m = some (b + 17) ∧ gr s'.1 7 m = some (b + 18) ∧ gr s'.1 8 m = some (b + 19) ∧ gi s'.1 9 m = gi s.1 9 m ∧ gi s'.1 10 m = gi s.1 10 m) ∧
  (gk s'.1 b = 102 ∧ gl s'.1 b = 4 ∧ ∀ i, i < 4 → gb s'.1 b i = some (b + 1 + 4 * i) ∧ PF s' (b + 1 + 4 * i) (nI i)) ∧
  (gk s'.1 (b + 17) = 103 ∧ gl s'.1 (b + 17) = 4 ∧ ∀ j, gb s'.1 (b + 17) j = none) ∧ (gk s'.1 (b + 18) = 4 ∧ sq s' (b + 18) = (List.range 10).map (fun j => cxI X (j + 128))) ∧ gk s'.1 (b + 19) = 100 ∧ gl s'.1 (b + 19) = 10 ∧ ∀ j, ga s'.1 (b + 19) j = 0
def sMach4 (T3 : sS) (m b : Nat) : sS := sSetR (sNewA (sSetR (sNew (sSetR (sNewA (sSetR (sSetB T3 b 3 (some (b + 13))) 5 m (some b)) 3 4) 6 m (some (b + 17))) 3) 7 m (some (b + 18))) 0 10) 8 m (some (b + 19))
theorem sMach_facts {X : gCx} {s T0 T1 T2 T3 : sS} {m b : Nat} (hb : gx s.1 = b) (hmb : m < b) (hm : gk s.1 m = 2) (F0 : PFacts (sNewA s 2 4) T0 (b + 1) (nI 0)) (F1 : PFacts (sSetB T0 b 0 (some (b + 1))) T1 (b + 5) (nI 1)) (F2 : PFacts (sSetB T1 b 1 (some (b + 5))) T2 (b + 9) (nI 2)) (F3 : PFacts (sSetB T2 b 2 (some (b + 9))) T3 (b + 13) (nI 3)) : MFacts X s (sAdds X (sMach4 T3 m b) (b + 18) 10) m b := by
  have x3 : gx T3.1 = b + 17 := by have := F3.1; omega
  obtain ⟨g1, g2, g3, g4, g5⟩ := sAdds_g X (sMach4 T3 m b) (b + 18) 10
  have tail0 : ∀ a, a < b + 17 → a ≠ m → a ≠ b → SameAt T3 (sMach4 T3 m b) a := fun a h1 h2 h3 => by
    unfold sMach4
    refine SameAt.trans ?_ (same_setR h2)
    refine SameAt.trans ?_ (same_newA (q := b + 19) (by show gx T3.1 + 1 + 1 = _; rw [x3]) (by omega))
    refine SameAt.trans ?_ (same_setR h2)
    refine SameAt.trans ?_ (same_new (q := b + 18) (by show gx T3.1 + 1 = _; rw [x3]) (by omega))
    refine SameAt.trans ?_ (same_setR h2)
    refine SameAt.trans ?_ (same_newA (q := b + 17) x3 (by omega))
    refine SameAt.trans ?_ (same_setR h2)
    exact same_setB h3
  have tail : ∀ a, a < b + 17 → a ≠ m → a ≠ b → SameAt T3 (sAdds X (sMach4 T3 m b) (b + 18) 10) a := fun a h1 h2 h3 => (tail0 a h1 h2 h3).trans (same_adds (by omega))
  generalize sAdds X (sMach4 T3 m b) (b + 18) 10 = Z at g1 g2 g3 g4 g5 tail ⊢
  have s2 : ∀ a, a < b + 13 → a ≠ b → SameAt T2 T3 a := fun a h1 h2 => (same_setB h2).trans (F3.2.1 a h1)
  have s1 : ∀ a, a < b + 9 → a ≠ b → SameAt T1 T2 a := fun a h1 h2 => (same_setB h2).trans (F2.2.1 a h1)
  have s0 : ∀ a, a < b + 5 → a ≠ b → SameAt T0 T1 a := fun a h1 h2 => (same_setB h2).trans (F1.2.1 a h1)
  have sm : ∀ a, a < b → SameAt s T3 a := fun a h => (same_newA hb (by omega)).trans ((F0.2.1 a (by omega)).trans ((s0 a (by omega) (by omega)).trans ((s1 a (by omega) (by omega)).trans (s2 a (by omega) (by omega)))))
  have em := sm m hmb
  have nmb : m ≠ b := by omega
  have m17 : m ≠ b + 17 := by omega
  have m18 : m ≠ b + 18 := by omega
  have m19 : m ≠ b + 19 := by omega
  have hgb : gb T3.1 b 0 = some (b + 1) ∧ gb T3.1 b 1 = some (b + 5) ∧ gb T3.1 b 2 = some (b + 9) := by
    rw [(F3.2.1 b (by omega)).2.2.2.2.2.1]
    show up2 (gb T2.1) b 2 _ b 0 = _ ∧ up2 (gb T2.1) b 2 _ b 1 = _ ∧ up2 (gb T2.1) b 2 _ b 2 = _
    unfold up2
    rw [if_neg (by omega), if_neg (by omega), if_pos ⟨rfl, rfl⟩, (F2.2.1 b (by omega)).2.2.2.2.2.1]
    show up2 (gb T1.1) b 1 _ b 0 = _ ∧ up2 (gb T1.1) b 1 _ b 1 = _ ∧ _
    unfold up2
    rw [if_neg (by omega), if_pos ⟨rfl, rfl⟩, (F1.2.1 b (by omega)).2.2.2.2.2.1]
    show up2 (gb T0.1) b 0 _ b 0 = _ ∧ _
    unfold up2
    rw [if_pos ⟨rfl, rfl⟩]
    exact ⟨rfl, rfl, rfl⟩
  have hkb : gk T3.1 b = 102 ∧ gl T3.1 b = 4 := by
    have e3 := F3.2.1 b (by omega)
    have e2 := F2.2.1 b (by omega)
    have e1 := F1.2.1 b (by omega)
    have e0 := F0.2.1 b (by omega)
    exact ⟨e3.1.trans (e2.1.trans (e1.1.trans (e0.1.trans (if_pos hb.symm)))), e3.2.1.trans (e2.2.1.trans (e1.2.1.trans (e0.2.1.trans (if_pos hb.symm))))⟩
  have gA : Z.1.2 = (sMach4 T3 m b).1.2 := g1
  have x3' : T3.1.1 = b + 17 := x3
  have nb1 : ¬ b = b + 17 + 1 := by omega
  have nb2 : ¬ b = b + 17 + 1 + 1 := by omega
  refine ⟨?_, fun a h1 h2 => (sm a h1).trans (tail a (by omega) h2 (by omega)), ?_, ⟨?_, ?_, fun i hi => ?_⟩, ?_, ⟨?_, ?_⟩, ?_, ?_, fun j => ?_⟩
  · rw [g3]
    show gx T3.1 + 1 + 1 + 1 + 10 = _
    rw [x3]
  · simp only [gk, gr, gi, gA]
    have e1 : T3.1.2.1 m = 2 := em.1.trans hm
    have e2 : T3.1.2.2.2.1 9 m = s.1.2.2.2.1 9 m := em.2.2.1 9
    have e3 : T3.1.2.2.2.1 10 m = s.1.2.2.2.1 10 m := em.2.2.1 10
    simp [sMach4, sSetI, sSetR, sSetB, sNew, sNewA, gSetI, gSetR, gSetB, gNew, gNewA, up1, up2, gx, gk, gl, gi, gr, ga, gb, x3', nmb, m17, m18, m19, e1, e2, e3]
  · simp only [gk, gA]
    have e1 : T3.1.2.1 b = 102 := hkb.1
    simp [sMach4, sSetI, sSetR, sSetB, sNew, sNewA, gSetI, gSetR, gSetB, gNew, gNewA, up1, up2, gx, gk, gl, gi, gr, ga, gb, x3', e1, nb1, nb2]
  · simp only [gl, gA]
    have e1 : T3.1.2.2.1 b = 4 := hkb.2
    simp [sMach4, sSetI, sSetR, sSetB, sNew, sNewA, gSetI, gSetR, gSetB, gNew, gNewA, up1, up2, gx, gk, gl, gi, gr, ga, gb, x3', e1, nb1, nb2]
  · obtain ⟨q0, q1, q2⟩ := hgb
    have gbz : ∀ j v, (if b = b ∧ j = 3 then some (b + 13) else gb T3.1 b j) = v → gb Z.1 b j = v := fun j v hv => by
      simp only [gb, gA]
      simp only [gb] at hv
      simp [sMach4, sSetI, sSetR, sSetB, sNew, sNewA, gSetI, gSetR, gSetB, gNew, gNewA, up1, up2, gx, gk, gl, gi, gr, ga, gb, x3', nb1, nb2]
      simpa using hv
    match i, hi with
    | 0, _ => exact ⟨gbz 0 _ (by rw [if_neg (by omega)]; exact q0), F0.2.2.same (fun a h1 h2 => (s0 a (by omega) (by omega)).trans ((s1 a (by omega) (by omega)).trans ((s2 a (by omega) (by omega)).trans (tail a (by omega) (by omega) (by omega)))))⟩
    | 1, _ => exact ⟨gbz 1 _ (by rw [if_neg (by omega)]; exact q1), F1.2.2.same (fun a h1 h2 => (s1 a (by omega) (by omega)).trans ((s2 a (by omega) (by omega)).trans (tail a (by omega) (by omega) (by omega))))⟩
    | 2, _ => exact ⟨gbz 2 _ (by rw [if_neg (by omega)]; exact q2), F2.2.2.same (fun a h1 h2 => (s2 a (by omega) (by omega)).trans (tail a (by omega) (by omega) (by omega)))⟩
    | 3, _ => exact ⟨gbz 3 _ (by rw [if_pos ⟨rfl, rfl⟩]), F3.2.2.same (fun a h1 h2 => tail a (by omega) (by omega) (by omega))⟩
  · simp only [gk, gl, gb, gA]
    simp [sMach4, sSetI, sSetR, sSetB, sNew, sNewA, gSetI, gSetR, gSetB, gNew, gNewA, up1, up2, gx, gk, gl, gi, gr, ga, gb, x3']
  · simp only [gk, gA]
    simp [sMach4, sSetI, sSetR, sSetB, sNew, sNewA, gSetI, gSetR, gSetB, gNew, gNewA, up1, up2, gx, gk, gl, gi, gr, ga, gb, x3']
  · rw [g4]
    have : sq (sMach4 T3 m b) (b + 18) = [] := by simp [sMach4, sSetI, sSetR, sSetB, sNew, sNewA, gSetI, gSetR, gSetB, gNew, gNewA, up1, up2, gx, gk, gl, gi, gr, ga, gb, x3', sq]
    rw [this]
    rfl
  · simp only [gk, gA]
    simp [sMach4, sSetI, sSetR, sSetB, sNew, sNewA, gSetI, gSetR, gSetB, gNew, gNewA, up1, up2, gx, gk, gl, gi, gr, ga, gb, x3']
  · simp only [gl, gA]
    simp [sMach4, sSetI, sSetR, sSetB, sNew, sNewA, gSetI, gSetR, gSetB, gNew, gNewA, up1, up2, gx, gk, gl, gi, gr, ga, gb, x3']
  · simp only [ga, gA]
    simp [sMach4, sSetI, sSetR, sSetB, sNew, sNewA, gSetI, gSetR, gSetB, gNew, gNewA, up1, up2, gx, gk, gl, gi, gr, ga, gb, x3']

set_option maxHeartbeats 4000000 in
theorem c_Machine_init (X : gCx) (l : Launch) (s : sS) (m b : Nat) (hm : gk s.1 m = 2) (hb : gx s.1 = b) (hmb : m < b) : gM X l (HoldP X (Abs X)) M_Machine_init 4 40 120 [.ref m] s (fun r s' => r = none ∧ MFacts X s s' m b) := by
  have n0 : m ≠ b := by omega
  have n17 : m ≠ b + 17 := by omega
  have n18 : m ≠ b + 18 := by omega
  have n19 : m ≠ b + 19 := by omega
  refine gM_intro (by decide) (Nat.le_of_ble_eq_true rfl) (fun K hK => ?_)
  have key : ∀ s1 : sS, gk s1.1 m = 2 → gk s1.1 (b + 18) = 4 → gr s1.1 7 m = some (b + 18) → MFacts X s (sAdds X s1 (b + 18) 10) m b → ∀ (k i : Nat), i + k = 10 → K 85 [(0, .ref m), (1, .int (nI i))] [] (sAdds X s1 (b + 18) i) (1 * k) (2 * k) := by
    intro s1 hm1 hpl1 hmp1 hM k
    induction k with
    | zero =>
      intro i hi
      have hi2 : i = 10 := by omega
      rw [hi2]
      refine r_iload_n hK d_Machine_init_85 rfl 1 rfl ?_
      refine r_bipush (v := nI 10) hK d_Machine_init_86 (by decide) ?_
      refine r_ncmp_ge (a := 10) (b := 10) (tgt := 108) hK d_Machine_init_88 (by decide) (by decide) (by decide) (fun _ => ?_) (fun z => absurd z (by decide))
      refine r_vret hK d_Machine_init_108 rfl ?_
      exact ⟨rfl, hM⟩
    | succ k ih =>
      intro i hi
      obtain ⟨g1, g2, g3, g4, g5⟩ := sAdds_g X s1 (b + 18) i
      have hm2 : gk (sAdds X s1 (b + 18) i).1 m = 2 := by show (sAdds X s1 (b + 18) i).1.2.1 m = 2; rw [g1]; exact hm1
      have hpl2 : gk (sAdds X s1 (b + 18) i).1 (b + 18) = 4 := by show (sAdds X s1 (b + 18) i).1.2.1 (b + 18) = 4; rw [g1]; exact hpl1
      have hmp2 : gr (sAdds X s1 (b + 18) i).1 7 m = some (b + 18) := by show (sAdds X s1 (b + 18) i).1.2.2.2.2.1 7 m = some (b + 18); rw [g1]; exact hmp1
      show K 85 [(0, .ref m), (1, .int (nI i))] [] (sAdds X s1 (b + 18) i) (1 * k + 1) (2 * k + 2)
      refine r_iload_n hK d_Machine_init_85 rfl 1 rfl ?_
      refine r_bipush (v := nI 10) hK d_Machine_init_86 (by decide) ?_
      refine r_ncmp_ge (a := i) (b := 10) (tgt := 108) hK d_Machine_init_88 (by decide) (by omega) (by omega) (fun z => False.elim (by omega)) (fun c88 => ?_)
      refine r_aload_n hK d_Machine_init_91 rfl 0 rfl ?_
      refine p_getR (f := 7) (v := some (b + 18)) hK d_Machine_init_92 k_Machine fd_Machine_29_Machine (by decide) rfl rfl (fun g h => h.getR hm2 (by decide) rfl hmp2) ?_
      refine r_iload_n hK d_Machine_init_95 rfl 1 rfl ?_
      refine r_callSr (As := [.int (nI i)]) (st := [.ref (b + 18)]) hK (c_Int_valueOf X l (HoldP X (Abs X)) (sAdds X s1 (b + 18) i) i (by omega)) d_Machine_init_96 ml_Machine_37 cs_Int_valueOf rfl (by decide) (Nat.le_of_ble_eq_true rfl) ?_ rfl
      refine r_callVv (As := [.ref (cxI X (i + 128))]) (b := b + 18) (st := []) hK (cS_add (s := sAdds X s1 (b + 18) i) (b + 18) (cxI X (i + 128)) hpl2) d_Machine_init_99 ml_Machine_43 cv_Line_add rfl (by decide) (p_recv k_Line (fun g h => h.kd hpl2 (by decide))) (Nat.le_of_ble_eq_true rfl) ?_ rfl
      refine r_iinc (w := nI (i + 1)) (lv' := [(1, .int (nI (i + 1))), (0, .ref m)]) hK d_Machine_init_102 1 rfl (nI_add _ 1) (by decide) rfl ?_
      refine r_goto (tgt := 85) hK d_Machine_init_105 (by decide) ?_
      exact r_loc hK [1, 0] rfl (ih (i + 1) (by omega))
  show K 0 [(0, .ref m)] [] s 40 120
  refine r_aload_n hK d_Machine_init_0 rfl 0 rfl ?_
  refine r_objInit hK d_Machine_init_1 ml_Machine_3 ow_1 ow_2 (by decide) (by decide) ?_
  refine r_aload_n hK d_Machine_init_4 rfl 0 rfl ?_
  refine r_iconst (v := nI 4) hK d_Machine_init_5 (by decide) ?_
  refine p_newq (t := 2) (n := 4) (a := b) hK d_Machine_init_6 (by decide) (by decide) rfl (fun _ h => h.2.2.1.1) cl_Machine_9 rfl (by decide) (fun g h => h.newA hb) ?_
  refine r_dup hK d_Machine_init_9 rfl ?_
  refine r_iconst (v := nI 0) hK d_Machine_init_10 (by decide) ?_
  refine p_new (ci := 2) (a := b + 1) hK d_Machine_init_11 k_Processor cl_Machine_9 in_Processor ii_Processor (fun g h => h.new (by simp [sSetI, sSetR, sSetA, sSetB, sSetQ, sSetL, sSetT, sNew, sNewA, sNewL, sPush, sBump, sBegL,  sPutT, sAddL_g, sAddL_q, sAddL_r, sAddL_l, sq, sl, sr, gSetI, gSetR, gSetA, gSetB, gNew, gNewA, up2, up1, gx, gk, gl, gi, gr, ga, gb, hb, n0, hb]) (by decide) (by decide)) ?_
  refine r_dup hK d_Machine_init_14 rfl ?_
  refine r_iconst (v := nI 0) hK d_Machine_init_15 (by decide) ?_
  refine r_callIv (As := [.int (nI 0)]) (b := b + 1) (st := [.ref (b + 1), .int (nI 0), .ref b, .ref b, .ref m]) hK (c_Processor_init' X l (sNew (sNewA s 2 4) 2) (b + 1) (nI 0) (by simp [sSetI, sSetR, sSetA, sSetB, sSetQ, sSetL, sSetT, sNew, sNewA, sNewL, sPush, sBump, sBegL,  sPutT, sAddL_g, sAddL_q, sAddL_r, sAddL_l, sq, sl, sr, gSetI, gSetR, gSetA, gSetB, gNew, gNewA, up2, up1, gx, gk, gl, gi, gr, ga, gb, hb, n0]) (by simp [sSetI, sSetR, sSetA, sSetB, sSetQ, sSetL, sSetT, sNew, sNewA, sNewL, sPush, sBump, sBegL,  sPutT, sAddL_g, sAddL_q, sAddL_r, sAddL_l, sq, sl, sr, gSetI, gSetR, gSetA, gSetB, gNew, gNewA, up2, up1, gx, gk, gl, gi, gr, ga, gb, hb, n0])) d_Machine_init_16 ml_Machine_11 ci_Processor_init rfl (by decide) (Nat.le_of_ble_eq_true rfl) ?_ rfl
  have F0 := sProc_pf (s := sNewA s 2 4) (p := b + 1) (n := nI 0) (by simp [sSetI, sSetR, sSetA, sSetB, sSetQ, sSetL, sSetT, sNew, sNewA, sNewL, sPush, sBump, sBegL,  sPutT, sAddL_g, sAddL_q, sAddL_r, sAddL_l, sq, sl, sr, gSetI, gSetR, gSetA, gSetB, gNew, gNewA, up2, up1, gx, gk, gl, gi, gr, ga, gb, hb, n0])
  generalize sProc (sNew (sNewA s 2 4) 2) (b + 1) (nI 0) = T0 at F0 ⊢
  have K0 : gk T0.1 m = 2 := (F0.2.1 m (by omega)).1.trans (by simp [sSetI, sSetR, sSetA, sSetB, sSetQ, sSetL, sSetT, sNew, sNewA, sNewL, sPush, sBump, sBegL,  sPutT, sAddL_g, sAddL_q, sAddL_r, sAddL_l, sq, sl, sr, gSetI, gSetR, gSetA, gSetB, gNew, gNewA, up2, up1, gx, gk, gl, gi, gr, ga, gb, hb, hm, n0])
  have B0 : gk T0.1 b = 102 := (F0.2.1 b (by omega)).1.trans (by simp [sSetI, sSetR, sSetA, sSetB, sSetQ, sSetL, sSetT, sNew, sNewA, sNewL, sPush, sBump, sBegL,  sPutT, sAddL_g, sAddL_q, sAddL_r, sAddL_l, sq, sl, sr, gSetI, gSetR, gSetA, gSetB, gNew, gNewA, up2, up1, gx, gk, gl, gi, gr, ga, gb, hb, n0])
  have L0 : gl T0.1 b = 4 := (F0.2.1 b (by omega)).2.1.trans (by simp [sSetI, sSetR, sSetA, sSetB, sSetQ, sSetL, sSetT, sNew, sNewA, sNewL, sPush, sBump, sBegL,  sPutT, sAddL_g, sAddL_q, sAddL_r, sAddL_l, sq, sl, sr, gSetI, gSetR, gSetA, gSetB, gNew, gNewA, up2, up1, gx, gk, gl, gi, gr, ga, gb, hb, n0])
  refine p_aast (t := 2) hK 0 4 d_Machine_init_19 (by decide) (by decide) rfl rfl (by omega) (p_recv k_Processor (fun g h => h.kd F0.2.2.1 (by decide))) (Or.inl rfl) (fun g h => have e := h.arr (a := b) (t := 2) (L := 4) (j := 0) B0 L0; ⟨e.1, e.2.1, h.setB (nzA (t := 2) B0)⟩) ?_
  refine r_dup hK d_Machine_init_20 rfl ?_
  refine r_iconst (v := nI 1) hK d_Machine_init_21 (by decide) ?_
  refine p_new (ci := 2) (a := b + 5) hK d_Machine_init_22 k_Processor cl_Machine_9 in_Processor ii_Processor (fun g h => h.new (by simp [sSetI, sSetR, sSetA, sSetB, sSetQ, sSetL, sSetT, sNew, sNewA, sNewL, sPush, sBump, sBegL,  sPutT, sAddL_g, sAddL_q, sAddL_r, sAddL_l, sq, sl, sr, gSetI, gSetR, gSetA, gSetB, gNew, gNewA, up2, up1, gx, gk, gl, gi, gr, ga, gb, F0.1, F0.1]) (by decide) (by decide)) ?_
  refine r_dup hK d_Machine_init_25 rfl ?_
  refine r_iconst (v := nI 1) hK d_Machine_init_26 (by decide) ?_
  refine r_callIv (As := [.int (nI 1)]) (b := b + 5) (st := [.ref (b + 5), .int (nI 1), .ref b, .ref b, .ref m]) hK (c_Processor_init' X l (sNew (sSetB T0 b 0 (some (b + 1))) 2) (b + 5) (nI 1) (by simp [sSetI, sSetR, sSetA, sSetB, sSetQ, sSetL, sSetT, sNew, sNewA, sNewL, sPush, sBump, sBegL,  sPutT, sAddL_g, sAddL_q, sAddL_r, sAddL_l, sq, sl, sr, gSetI, gSetR, gSetA, gSetB, gNew, gNewA, up2, up1, gx, gk, gl, gi, gr, ga, gb, F0.1]) (by simp [sSetI, sSetR, sSetA, sSetB, sSetQ, sSetL, sSetT, sNew, sNewA, sNewL, sPush, sBump, sBegL,  sPutT, sAddL_g, sAddL_q, sAddL_r, sAddL_l, sq, sl, sr, gSetI, gSetR, gSetA, gSetB, gNew, gNewA, up2, up1, gx, gk, gl, gi, gr, ga, gb, F0.1])) d_Machine_init_27 ml_Machine_11 ci_Processor_init rfl (by decide) (Nat.le_of_ble_eq_true rfl) ?_ rfl
  have F1 := sProc_pf (s := sSetB T0 b 0 (some (b + 1))) (p := b + 5) (n := nI 1) (F0.1)
  generalize sProc (sNew (sSetB T0 b 0 (some (b + 1))) 2) (b + 5) (nI 1) = T1 at F1 ⊢
  have K1 : gk T1.1 m = 2 := (F1.2.1 m (by omega)).1.trans K0
  have B1 : gk T1.1 b = 102 := (F1.2.1 b (by omega)).1.trans B0
  have L1 : gl T1.1 b = 4 := (F1.2.1 b (by omega)).2.1.trans L0
  refine p_aast (t := 2) hK 1 4 d_Machine_init_30 (by decide) (by decide) rfl rfl (by omega) (p_recv k_Processor (fun g h => h.kd F1.2.2.1 (by decide))) (Or.inl rfl) (fun g h => have e := h.arr (a := b) (t := 2) (L := 4) (j := 0) B1 L1; ⟨e.1, e.2.1, h.setB (nzA (t := 2) B1)⟩) ?_
  refine r_dup hK d_Machine_init_31 rfl ?_
  refine r_iconst (v := nI 2) hK d_Machine_init_32 (by decide) ?_
  refine p_new (ci := 2) (a := b + 9) hK d_Machine_init_33 k_Processor cl_Machine_9 in_Processor ii_Processor (fun g h => h.new (by simp [sSetI, sSetR, sSetA, sSetB, sSetQ, sSetL, sSetT, sNew, sNewA, sNewL, sPush, sBump, sBegL,  sPutT, sAddL_g, sAddL_q, sAddL_r, sAddL_l, sq, sl, sr, gSetI, gSetR, gSetA, gSetB, gNew, gNewA, up2, up1, gx, gk, gl, gi, gr, ga, gb, F1.1, F1.1]) (by decide) (by decide)) ?_
  refine r_dup hK d_Machine_init_36 rfl ?_
  refine r_iconst (v := nI 2) hK d_Machine_init_37 (by decide) ?_
  refine r_callIv (As := [.int (nI 2)]) (b := b + 9) (st := [.ref (b + 9), .int (nI 2), .ref b, .ref b, .ref m]) hK (c_Processor_init' X l (sNew (sSetB T1 b 1 (some (b + 5))) 2) (b + 9) (nI 2) (by simp [sSetI, sSetR, sSetA, sSetB, sSetQ, sSetL, sSetT, sNew, sNewA, sNewL, sPush, sBump, sBegL,  sPutT, sAddL_g, sAddL_q, sAddL_r, sAddL_l, sq, sl, sr, gSetI, gSetR, gSetA, gSetB, gNew, gNewA, up2, up1, gx, gk, gl, gi, gr, ga, gb, F1.1]) (by simp [sSetI, sSetR, sSetA, sSetB, sSetQ, sSetL, sSetT, sNew, sNewA, sNewL, sPush, sBump, sBegL,  sPutT, sAddL_g, sAddL_q, sAddL_r, sAddL_l, sq, sl, sr, gSetI, gSetR, gSetA, gSetB, gNew, gNewA, up2, up1, gx, gk, gl, gi, gr, ga, gb, F1.1])) d_Machine_init_38 ml_Machine_11 ci_Processor_init rfl (by decide) (Nat.le_of_ble_eq_true rfl) ?_ rfl
  have F2 := sProc_pf (s := sSetB T1 b 1 (some (b + 5))) (p := b + 9) (n := nI 2) (F1.1)
  generalize sProc (sNew (sSetB T1 b 1 (some (b + 5))) 2) (b + 9) (nI 2) = T2 at F2 ⊢
  have K2 : gk T2.1 m = 2 := (F2.2.1 m (by omega)).1.trans K1
  have B2 : gk T2.1 b = 102 := (F2.2.1 b (by omega)).1.trans B1
  have L2 : gl T2.1 b = 4 := (F2.2.1 b (by omega)).2.1.trans L1
  refine p_aast (t := 2) hK 2 4 d_Machine_init_41 (by decide) (by decide) rfl rfl (by omega) (p_recv k_Processor (fun g h => h.kd F2.2.2.1 (by decide))) (Or.inl rfl) (fun g h => have e := h.arr (a := b) (t := 2) (L := 4) (j := 0) B2 L2; ⟨e.1, e.2.1, h.setB (nzA (t := 2) B2)⟩) ?_
  refine r_dup hK d_Machine_init_42 rfl ?_
  refine r_iconst (v := nI 3) hK d_Machine_init_43 (by decide) ?_
  refine p_new (ci := 2) (a := b + 13) hK d_Machine_init_44 k_Processor cl_Machine_9 in_Processor ii_Processor (fun g h => h.new (by simp [sSetI, sSetR, sSetA, sSetB, sSetQ, sSetL, sSetT, sNew, sNewA, sNewL, sPush, sBump, sBegL,  sPutT, sAddL_g, sAddL_q, sAddL_r, sAddL_l, sq, sl, sr, gSetI, gSetR, gSetA, gSetB, gNew, gNewA, up2, up1, gx, gk, gl, gi, gr, ga, gb, F2.1, F2.1]) (by decide) (by decide)) ?_
  refine r_dup hK d_Machine_init_47 rfl ?_
  refine r_iconst (v := nI 3) hK d_Machine_init_48 (by decide) ?_
  refine r_callIv (As := [.int (nI 3)]) (b := b + 13) (st := [.ref (b + 13), .int (nI 3), .ref b, .ref b, .ref m]) hK (c_Processor_init' X l (sNew (sSetB T2 b 2 (some (b + 9))) 2) (b + 13) (nI 3) (by simp [sSetI, sSetR, sSetA, sSetB, sSetQ, sSetL, sSetT, sNew, sNewA, sNewL, sPush, sBump, sBegL,  sPutT, sAddL_g, sAddL_q, sAddL_r, sAddL_l, sq, sl, sr, gSetI, gSetR, gSetA, gSetB, gNew, gNewA, up2, up1, gx, gk, gl, gi, gr, ga, gb, F2.1]) (by simp [sSetI, sSetR, sSetA, sSetB, sSetQ, sSetL, sSetT, sNew, sNewA, sNewL, sPush, sBump, sBegL,  sPutT, sAddL_g, sAddL_q, sAddL_r, sAddL_l, sq, sl, sr, gSetI, gSetR, gSetA, gSetB, gNew, gNewA, up2, up1, gx, gk, gl, gi, gr, ga, gb, F2.1])) d_Machine_init_49 ml_Machine_11 ci_Processor_init rfl (by decide) (Nat.le_of_ble_eq_true rfl) ?_ rfl
  have F3 := sProc_pf (s := sSetB T2 b 2 (some (b + 9))) (p := b + 13) (n := nI 3) (F2.1)
  generalize sProc (sNew (sSetB T2 b 2 (some (b + 9))) 2) (b + 13) (nI 3) = T3 at F3 ⊢
  have K3 : gk T3.1 m = 2 := (F3.2.1 m (by omega)).1.trans K2
  have B3 : gk T3.1 b = 102 := (F3.2.1 b (by omega)).1.trans B2
  have L3 : gl T3.1 b = 4 := (F3.2.1 b (by omega)).2.1.trans L2
  refine p_aast (t := 2) hK 3 4 d_Machine_init_52 (by decide) (by decide) rfl rfl (by omega) (p_recv k_Processor (fun g h => h.kd F3.2.2.1 (by decide))) (Or.inl rfl) (fun g h => have e := h.arr (a := b) (t := 2) (L := 4) (j := 0) B3 L3; ⟨e.1, e.2.1, h.setB (nzA (t := 2) B3)⟩) ?_
  refine p_putFR (k := 0) (f := 5) (v := some b) hK d_Machine_init_53 k_Machine fl_Machine_14 rfl rfl (by decide) rfl rfl rfl (fun g h => ⟨h.kd K3 (by decide), h.setR (nz_of (k := 1) K3) rfl⟩) ?_
  refine r_aload_n hK d_Machine_init_56 rfl 0 rfl ?_
  refine r_iconst (v := nI 4) hK d_Machine_init_57 (by decide) ?_
  refine p_newq (t := 3) (n := 4) (a := b + 17) hK d_Machine_init_58 (by decide) (by decide) rfl (fun _ h => h.2.2.1.2.1) cl_Machine_20 rfl (by decide) (fun g h => h.newA (by simp [sSetI, sSetR, sSetA, sSetB, sSetQ, sSetL, sSetT, sNew, sNewA, sNewL, sPush, sBump, sBegL,  sPutT, sAddL_g, sAddL_q, sAddL_r, sAddL_l, sq, sl, sr, gSetI, gSetR, gSetA, gSetB, gNew, gNewA, up2, up1, gx, gk, gl, gi, gr, ga, gb, F3.1, n17, n18, n19, F3.1])) ?_
  refine p_putFR (k := 1) (f := 6) (v := some (b + 17)) hK d_Machine_init_61 k_Machine fl_Machine_22 rfl rfl (by decide) rfl rfl rfl (fun g h => ⟨h.kd (by simp [sSetI, sSetR, sSetA, sSetB, sSetQ, sSetL, sSetT, sNew, sNewA, sNewL, sPush, sBump, sBegL,  sPutT, sAddL_g, sAddL_q, sAddL_r, sAddL_l, sq, sl, sr, gSetI, gSetR, gSetA, gSetB, gNew, gNewA, up2, up1, gx, gk, gl, gi, gr, ga, gb, F3.1, n17, n18, n19, K3]) (by decide), h.setR (nz_of (k := 1) (by simp [sSetI, sSetR, sSetA, sSetB, sSetQ, sSetL, sSetT, sNew, sNewA, sNewL, sPush, sBump, sBegL,  sPutT, sAddL_g, sAddL_q, sAddL_r, sAddL_l, sq, sl, sr, gSetI, gSetR, gSetA, gSetB, gNew, gNewA, up2, up1, gx, gk, gl, gi, gr, ga, gb, F3.1, n17, n18, n19, K3])) rfl⟩) ?_
  refine r_aload_n hK d_Machine_init_64 rfl 0 rfl ?_
  refine p_new (ci := 3) (a := b + 18) hK d_Machine_init_65 k_Line cl_Machine_26 in_Line ii_Line (fun g h => h.new (by simp [sSetI, sSetR, sSetA, sSetB, sSetQ, sSetL, sSetT, sNew, sNewA, sNewL, sPush, sBump, sBegL,  sPutT, sAddL_g, sAddL_q, sAddL_r, sAddL_l, sq, sl, sr, gSetI, gSetR, gSetA, gSetB, gNew, gNewA, up2, up1, gx, gk, gl, gi, gr, ga, gb, F3.1, n17, n18, n19, F3.1]) (by decide) (by decide)) ?_
  refine r_dup hK d_Machine_init_68 rfl ?_
  refine r_callNv (As := []) (b := b + 18) (st := [.ref (b + 18), .ref m]) hK (cS_lineInit (s := sNew (sSetR (sNewA (sSetR (sSetB T3 b 3 (some (b + 13))) 5 m (some b)) 3 4) 6 m (some (b + 17))) 3) (b + 18)) d_Machine_init_69 mn_Machine_28 ci_Line_init rfl (by decide) (Nat.le_of_ble_eq_true rfl) ?_ rfl
  refine p_putFR (k := 2) (f := 7) (v := some (b + 18)) hK d_Machine_init_72 k_Machine fl_Machine_29 rfl rfl (by decide) rfl rfl rfl (fun g h => ⟨h.kd (by simp [sSetI, sSetR, sSetA, sSetB, sSetQ, sSetL, sSetT, sNew, sNewA, sNewL, sPush, sBump, sBegL,  sPutT, sAddL_g, sAddL_q, sAddL_r, sAddL_l, sq, sl, sr, gSetI, gSetR, gSetA, gSetB, gNew, gNewA, up2, up1, gx, gk, gl, gi, gr, ga, gb, F3.1, n17, n18, n19, K3]) (by decide), h.setR (nz_of (k := 1) (by simp [sSetI, sSetR, sSetA, sSetB, sSetQ, sSetL, sSetT, sNew, sNewA, sNewL, sPush, sBump, sBegL,  sPutT, sAddL_g, sAddL_q, sAddL_r, sAddL_l, sq, sl, sr, gSetI, gSetR, gSetA, gSetB, gNew, gNewA, up2, up1, gx, gk, gl, gi, gr, ga, gb, F3.1, n17, n18, n19, K3])) rfl⟩) ?_
  refine r_aload_n hK d_Machine_init_75 rfl 0 rfl ?_
  refine r_bipush (v := nI 10) hK d_Machine_init_76 (by decide) ?_
  refine p_newi (t := 0) (n := 10) (a := b + 19) hK d_Machine_init_78 (by decide) rfl aw_int rfl (by decide) (fun g h => h.newA (by simp [sSetI, sSetR, sSetA, sSetB, sSetQ, sSetL, sSetT, sNew, sNewA, sNewL, sPush, sBump, sBegL,  sPutT, sAddL_g, sAddL_q, sAddL_r, sAddL_l, sq, sl, sr, gSetI, gSetR, gSetA, gSetB, gNew, gNewA, up2, up1, gx, gk, gl, gi, gr, ga, gb, F3.1, n17, n18, n19, F3.1])) ?_
  refine p_putFR (k := 3) (f := 8) (v := some (b + 19)) hK d_Machine_init_80 k_Machine fl_Machine_33 rfl rfl (by decide) rfl rfl rfl (fun g h => ⟨h.kd (by simp [sSetI, sSetR, sSetA, sSetB, sSetQ, sSetL, sSetT, sNew, sNewA, sNewL, sPush, sBump, sBegL,  sPutT, sAddL_g, sAddL_q, sAddL_r, sAddL_l, sq, sl, sr, gSetI, gSetR, gSetA, gSetB, gNew, gNewA, up2, up1, gx, gk, gl, gi, gr, ga, gb, F3.1, n17, n18, n19, K3]) (by decide), h.setR (nz_of (k := 1) (by simp [sSetI, sSetR, sSetA, sSetB, sSetQ, sSetL, sSetT, sNew, sNewA, sNewL, sPush, sBump, sBegL,  sPutT, sAddL_g, sAddL_q, sAddL_r, sAddL_l, sq, sl, sr, gSetI, gSetR, gSetA, gSetB, gNew, gNewA, up2, up1, gx, gk, gl, gi, gr, ga, gb, F3.1, n17, n18, n19, K3])) rfl⟩) ?_
  refine r_iconst (v := nI 0) hK d_Machine_init_83 (by decide) ?_
  refine r_istore_n (lv' := [(1, .int (nI 0)), (0, .ref m)]) hK d_Machine_init_84 rfl (by decide) rfl ?_
  have finM : MFacts X s (sAdds X (sSetR (sNewA (sSetR (sNew (sSetR (sNewA (sSetR (sSetB T3 b 3 (some (b + 13))) 5 m (some b)) 3 4) 6 m (some (b + 17))) 3) 7 m (some (b + 18))) 0 10) 8 m (some (b + 19))) (b + 18) 10) m b := sMach_facts hb hmb hm F0 F1 F2 F3
  have hkey := key (sSetR (sNewA (sSetR (sNew (sSetR (sNewA (sSetR (sSetB T3 b 3 (some (b + 13))) 5 m (some b)) 3 4) 6 m (some (b + 17))) 3) 7 m (some (b + 18))) 0 10) 8 m (some (b + 19))) (by simp [sSetI, sSetR, sSetA, sSetB, sSetQ, sSetL, sSetT, sNew, sNewA, sNewL, sPush, sBump, sBegL,  sPutT, sAddL_g, sAddL_q, sAddL_r, sAddL_l, sq, sl, sr, gSetI, gSetR, gSetA, gSetB, gNew, gNewA, up2, up1, gx, gk, gl, gi, gr, ga, gb, F3.1, n17, n18, n19, K3]) (by simp [sSetI, sSetR, sSetA, sSetB, sSetQ, sSetL, sSetT, sNew, sNewA, sNewL, sPush, sBump, sBegL,  sPutT, sAddL_g, sAddL_q, sAddL_r, sAddL_l, sq, sl, sr, gSetI, gSetR, gSetA, gSetB, gNew, gNewA, up2, up1, gx, gk, gl, gi, gr, ga, gb, F3.1, n17, n18, n19]) (by simp [sSetI, sSetR, sSetA, sSetB, sSetQ, sSetL, sSetT, sNew, sNewA, sNewL, sPush, sBump, sBegL,  sPutT, sAddL_g, sAddL_q, sAddL_r, sAddL_l, sq, sl, sr, gSetI, gSetR, gSetA, gSetB, gNew, gNewA, up2, up1, gx, gk, gl, gi, gr, ga, gb, F3.1, n17, n18, n19, n18]) (finM)
  refine r_room hK (kc' := 1 * 10) (ks' := 2 * 10) (by decide) (by decide) ?_
  exact r_loc hK [1, 0] rfl (hkey 10 0 (by omega))
