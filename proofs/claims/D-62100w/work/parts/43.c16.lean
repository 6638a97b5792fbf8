def MF (X : gCx) (s' : sS) (m b : Nat) : Prop :=
  (gk s'.1 m = 2 ∧ gr s'.1 5 m = some b ∧ gr s'.1 6 m = some (b + 17) ∧ gr s'.1 7 m = some (b + 18) ∧ gr s'.1 8 m = some (b + 19) ∧ gi s'.1 9 m = nI 0 ∧ gi s'.1 10 m = nI 0) ∧
  (gk s'.1 b = 102 ∧ gl s'.1 b = 4 ∧ ∀ i, i < 4 → gb s'.1 b i = some (b + 1 + 4 * i) ∧ PF s' (b + 1 + 4 * i) (nI i)) ∧
  (gk s'.1 (b + 17) = 103 ∧ gl s'.1 (b + 17) = 4 ∧ ∀ j, gb s'.1 (b + 17) j = none) ∧ (gk s'.1 (b + 18) = 4 ∧ sq s' (b + 18) = (List.range 10).map (fun j => cxI X (j + 128))) ∧ gk s'.1 (b + 19) = 100 ∧ gl s'.1 (b + 19) = 10 ∧ ∀ j, ga s'.1 (b + 19) j = 0
theorem MF.of {X : gCx} {s0 s s' : sS} {m b : Nat} (h : MFacts X s0 s m b) (h1 : gi s0.1 9 m = nI 0) (h2 : gi s0.1 10 m = nI 0) (e : ∀ a, a = m ∨ (b ≤ a ∧ a < b + 30) → SameAt s s' a) : MF X s' m b := by
  obtain ⟨-, -, ⟨a1, a2, a3, a4, a5, a6, a7⟩, ⟨b1, b2, b3⟩, ⟨c1, c2, c3⟩, ⟨d1, d2⟩, e1, e2, e3⟩ := h
  have em := e m (Or.inl rfl)
  have eb := e b (Or.inr ⟨by omega, by omega⟩)
  have e17 := e (b + 17) (Or.inr ⟨by omega, by omega⟩)
  have e18 := e (b + 18) (Or.inr ⟨by omega, by omega⟩)
  have e19 := e (b + 19) (Or.inr ⟨by omega, by omega⟩)
  refine ⟨⟨em.1.trans a1, (em.2.2.2.1 _).trans a2, (em.2.2.2.1 _).trans a3, (em.2.2.2.1 _).trans a4, (em.2.2.2.1 _).trans a5, (em.2.2.1 _).trans (a6.trans h1), (em.2.2.1 _).trans (a7.trans h2)⟩, ⟨eb.1.trans b1, eb.2.1.trans b2, fun i hi => ⟨by rw [eb.2.2.2.2.2.1]; exact (b3 i hi).1, (b3 i hi).2.same (fun a h1 h2 => e a (Or.inr ⟨by omega, by omega⟩))⟩⟩, ⟨e17.1.trans c1, e17.2.1.trans c2, fun j => by rw [e17.2.2.2.2.2.1]; exact c3 j⟩, ⟨e18.1.trans d1, e18.2.2.2.2.2.2.1.trans d2⟩, e19.1.trans e1, e19.2.1.trans e2, fun j => by rw [e19.2.2.2.2.1]; exact e3 j⟩
/-- a new kernel at x, what it needs from m on -/
def KF (X : gCx) (s' : sS) (x m : Nat) : Prop :=
  gx s'.1 = m + 32 ∧ (gk s'.1 x = 1 ∧ gr s'.1 1 x = some m ∧ gr s'.1 2 x = some (m + 31) ∧ gi s'.1 3 x = nI 0 ∧ gi s'.1 4 x = nI 0) ∧ (gk s'.1 (m + 31) = 14 ∧ sl s' (m + 31) = []) ∧ MF X s' m (m + 1)
set_option maxHeartbeats 4000000 in
theorem c_Ker_init (X : gCx) (l : Launch) (s : sS) (x m : Nat) (hx : gk s.1 x = 1) (h3 : gi s.1 3 x = nI 0) (h4 : gi s.1 4 x = nI 0) (hq : gx s.1 = m) (hxm : x < m) : gM X l (HoldP X (Abs X)) M_Ker_init 5 42 150 [.ref x] s (fun r s' => r = none ∧ KF X s' x m) := by
  have n1 : x ≠ m := by omega
  have n31 : x ≠ m + 31 := by omega
  refine gM_intro (by decide) (Nat.le_of_ble_eq_true rfl) (fun K hK => ?_)
  show K 0 [(0, .ref x)] [] s 42 150
  refine r_aload_n hK d_Ker_init_0 rfl 0 rfl ?_
  refine r_objInit hK d_Ker_init_1 ml_Ker_1 ow_1 ow_2 (by decide) (by decide) ?_
  refine r_aload_n hK d_Ker_init_4 rfl 0 rfl ?_
  refine p_new (ci := 1) (a := m) hK d_Ker_init_5 k_Machine cl_Ker_7 in_Machine ii_Machine (fun g h => h.new hq (by decide) (by decide)) ?_
  refine r_dup hK d_Ker_init_8 rfl ?_
  have hm0 : gk (sNew s 1).1 m = 2 := by simp [sSetI, sSetR, sSetA, sSetB, sSetQ, sSetL, sSetT, sNew, sNewA, sNewL, sPush, sBump, sBegL,  sPutT, sAddL_g, sAddL_q, sAddL_r, sAddL_l, sq, sl, sr, gSetI, gSetR, gSetA, gSetB, gNew, gNewA, up2, up1, gx, gk, gl, gi, gr, ga, gb, hq, n1]
  have hb0 : gx (sNew s 1).1 = m + 1 := by simp [sSetI, sSetR, sSetA, sSetB, sSetQ, sSetL, sSetT, sNew, sNewA, sNewL, sPush, sBump, sBegL,  sPutT, sAddL_g, sAddL_q, sAddL_r, sAddL_l, sq, sl, sr, gSetI, gSetR, gSetA, gSetB, gNew, gNewA, up2, up1, gx, gk, gl, gi, gr, ga, gb, hq, n1]
  refine r_callI (As := []) (b := m) (st := [.ref m, .ref x]) hK (c_Machine_init X l (sNew s 1) m (m + 1) hm0 hb0 (by omega)) d_Ker_init_9 ml_Ker_9 ci_Machine_init rfl (by decide) (Nat.le_of_ble_eq_true rfl) (fun r M1 hM => ?_) rfl
  obtain ⟨rfl, hM⟩ := hM
  show K 12 [(0, .ref x)] [.ref m, .ref x] M1 _ _
  have x1 : gk M1.1 x = 1 := (hM.2.1 x (by omega) (by omega)).1.trans (by simp [sSetI, sSetR, sSetA, sSetB, sSetQ, sSetL, sSetT, sNew, sNewA, sNewL, sPush, sBump, sBegL,  sPutT, sAddL_g, sAddL_q, sAddL_r, sAddL_l, sq, sl, sr, gSetI, gSetR, gSetA, gSetB, gNew, gNewA, up2, up1, gx, gk, gl, gi, gr, ga, gb, hq, n1, hx])
  have x3 : gi M1.1 3 x = nI 0 := ((hM.2.1 x (by omega) (by omega)).2.2.1 3).trans (by simp [sSetI, sSetR, sSetA, sSetB, sSetQ, sSetL, sSetT, sNew, sNewA, sNewL, sPush, sBump, sBegL,  sPutT, sAddL_g, sAddL_q, sAddL_r, sAddL_l, sq, sl, sr, gSetI, gSetR, gSetA, gSetB, gNew, gNewA, up2, up1, gx, gk, gl, gi, gr, ga, gb, hq, n1]; exact h3)
  have x4 : gi M1.1 4 x = nI 0 := ((hM.2.1 x (by omega) (by omega)).2.2.1 4).trans (by simp [sSetI, sSetR, sSetA, sSetB, sSetQ, sSetL, sSetT, sNew, sNewA, sNewL, sPush, sBump, sBegL,  sPutT, sAddL_g, sAddL_q, sAddL_r, sAddL_l, sq, sl, sr, gSetI, gSetR, gSetA, gSetB, gNew, gNewA, up2, up1, gx, gk, gl, gi, gr, ga, gb, hq, n1]; exact h4)
  have xg : gx M1.1 = m + 31 := by have := hM.1; omega
  refine p_putFR (k := 0) (f := 1) (v := some m) hK d_Ker_init_12 k_Ker fl_Ker_10 rfl rfl (by decide) rfl rfl rfl (fun g h => ⟨h.kd x1 (by decide), h.setR (nz_of (k := 0) x1) rfl⟩) ?_
  refine r_aload_n hK d_Ker_init_15 rfl 0 rfl ?_
  refine p_new (ci := 13) (a := m + 31) hK d_Ker_init_16 k_AL cl_Ker_16 in_AL ii_AL (fun g h => h.newL (by simp [sSetI, sSetR, sSetA, sSetB, sSetQ, sSetL, sSetT, sNew, sNewA, sNewL, sPush, sBump, sBegL,  sPutT, sAddL_g, sAddL_q, sAddL_r, sAddL_l, sq, sl, sr, gSetI, gSetR, gSetA, gSetB, gNew, gNewA, up2, up1, gx, gk, gl, gi, gr, ga, gb, xg, n31, xg])) ?_
  refine r_dup hK d_Ker_init_19 rfl ?_
  refine r_callIv (As := []) (b := m + 31) (st := [.ref (m + 31), .ref x]) hK (cS_init (s := sNewL (sSetR M1 1 x (some m))) (m + 31) (by simp [sSetI, sSetR, sSetA, sSetB, sSetQ, sSetL, sSetT, sNew, sNewA, sNewL, sPush, sBump, sBegL,  sPutT, sAddL_g, sAddL_q, sAddL_r, sAddL_l, sq, sl, sr, gSetI, gSetR, gSetA, gSetB, gNew, gNewA, up2, up1, gx, gk, gl, gi, gr, ga, gb, xg, n31])) d_Ker_init_20 ml_Ker_18 ci_AL_init rfl (by decide) (Nat.le_of_ble_eq_true rfl) ?_ rfl
  refine p_putFR (k := 1) (f := 2) (v := some (m + 31)) hK d_Ker_init_23 k_Ker fl_Ker_19 rfl rfl (by decide) rfl rfl rfl (fun g h => ⟨h.kd (by simp [sSetI, sSetR, sSetA, sSetB, sSetQ, sSetL, sSetT, sNew, sNewA, sNewL, sPush, sBump, sBegL,  sPutT, sAddL_g, sAddL_q, sAddL_r, sAddL_l, sq, sl, sr, gSetI, gSetR, gSetA, gSetB, gNew, gNewA, up2, up1, gx, gk, gl, gi, gr, ga, gb, xg, n31, x1]) (by decide), h.setR (nz_of (k := 0) (by simp [sSetI, sSetR, sSetA, sSetB, sSetQ, sSetL, sSetT, sNew, sNewA, sNewL, sPush, sBump, sBegL,  sPutT, sAddL_g, sAddL_q, sAddL_r, sAddL_l, sq, sl, sr, gSetI, gSetR, gSetA, gSetB, gNew, gNewA, up2, up1, gx, gk, gl, gi, gr, ga, gb, xg, n31, x1])) rfl⟩) ?_
  refine r_vret hK d_Ker_init_26 rfl ?_
  refine ⟨rfl, ?_, ⟨by simp [sSetI, sSetR, sSetA, sSetB, sSetQ, sSetL, sSetT, sNew, sNewA, sNewL, sPush, sBump, sBegL,  sPutT, sAddL_g, sAddL_q, sAddL_r, sAddL_l, sq, sl, sr, gSetI, gSetR, gSetA, gSetB, gNew, gNewA, up2, up1, gx, gk, gl, gi, gr, ga, gb, xg, n31, x1, x3, x4], by simp [sSetI, sSetR, sSetA, sSetB, sSetQ, sSetL, sSetT, sNew, sNewA, sNewL, sPush, sBump, sBegL,  sPutT, sAddL_g, sAddL_q, sAddL_r, sAddL_l, sq, sl, sr, gSetI, gSetR, gSetA, gSetB, gNew, gNewA, up2, up1, gx, gk, gl, gi, gr, ga, gb, xg, n31, x1, x3, x4], by simp [sSetI, sSetR, sSetA, sSetB, sSetQ, sSetL, sSetT, sNew, sNewA, sNewL, sPush, sBump, sBegL,  sPutT, sAddL_g, sAddL_q, sAddL_r, sAddL_l, sq, sl, sr, gSetI, gSetR, gSetA, gSetB, gNew, gNewA, up2, up1, gx, gk, gl, gi, gr, ga, gb, xg, n31, x1, x3, x4], by simp [sSetI, sSetR, sSetA, sSetB, sSetQ, sSetL, sSetT, sNew, sNewA, sNewL, sPush, sBump, sBegL,  sPutT, sAddL_g, sAddL_q, sAddL_r, sAddL_l, sq, sl, sr, gSetI, gSetR, gSetA, gSetB, gNew, gNewA, up2, up1, gx, gk, gl, gi, gr, ga, gb, xg, n31, x1, x3, x4], by simp [sSetI, sSetR, sSetA, sSetB, sSetQ, sSetL, sSetT, sNew, sNewA, sNewL, sPush, sBump, sBegL,  sPutT, sAddL_g, sAddL_q, sAddL_r, sAddL_l, sq, sl, sr, gSetI, gSetR, gSetA, gSetB, gNew, gNewA, up2, up1, gx, gk, gl, gi, gr, ga, gb, xg, n31, x1, x3, x4]⟩, ⟨by simp [sSetI, sSetR, sSetA, sSetB, sSetQ, sSetL, sSetT, sNew, sNewA, sNewL, sPush, sBump, sBegL,  sPutT, sAddL_g, sAddL_q, sAddL_r, sAddL_l, sq, sl, sr, gSetI, gSetR, gSetA, gSetB, gNew, gNewA, up2, up1, gx, gk, gl, gi, gr, ga, gb, xg, n31, x1, x3, x4], by simp [sSetI, sSetR, sSetA, sSetB, sSetQ, sSetL, sSetT, sNew, sNewA, sNewL, sPush, sBump, sBegL,  sPutT, sAddL_g, sAddL_q, sAddL_r, sAddL_l, sq, sl, sr, gSetI, gSetR, gSetA, gSetB, gNew, gNewA, up2, up1, gx, gk, gl, gi, gr, ga, gb, xg, n31, x1, x3, x4]⟩, MF.of hM ?_ ?_ (fun a ha => ?_)⟩
  · show gx M1.1 + 1 = _
    rw [xg]
  · simp [sSetI, sSetR, sSetA, sSetB, sSetQ, sSetL, sSetT, sNew, sNewA, sNewL, sPush, sBump, sBegL,  sPutT, sAddL_g, sAddL_q, sAddL_r, sAddL_l, sq, sl, sr, gSetI, gSetR, gSetA, gSetB, gNew, gNewA, up2, up1, gx, gk, gl, gi, gr, ga, gb, hq]
    rfl
  · simp [sSetI, sSetR, sSetA, sSetB, sSetQ, sSetL, sSetT, sNew, sNewA, sNewL, sPush, sBump, sBegL,  sPutT, sAddL_g, sAddL_q, sAddL_r, sAddL_l, sq, sl, sr, gSetI, gSetR, gSetA, gSetB, gNew, gNewA, up2, up1, gx, gk, gl, gi, gr, ga, gb, hq]
    rfl
  · have hax : a ≠ x := by omega
    have ha31 : a ≠ m + 31 := by omega
    refine SameAt.trans ?_ (same_setR hax)
    refine SameAt.trans ?_ (same_begL ha31)
    refine SameAt.trans ?_ (same_newL (q := m + 31) xg ha31)
    exact same_setR hax
/-! the twin's constructor -/
/-- a twin in the making: arrays made, fields set, contents -/
def AbM (h : Nat) (g : gG) (s : Nat × Nat × tS) : Prop :=
  gx g = h + 1 + s.1 ∧ gk g h = 15 ∧ (∀ k, k < 34 → tN k < s.2.1 → gr g (57 + k) h = some (h + 1 + tN k)) ∧ (∀ k, k < 34 → 29 ≤ tN k → gi g (57 + k) h = s.2.2 (tN k) 0) ∧ (∀ j, j < s.1 → gk g (h + 1 + j) = 100 + tB j ∧ gl g (h + 1 + j) = tL j ∧ ∀ q, ga g (h + 1 + j) q = s.2.2 j q) ∧ (∀ j q, s.1 ≤ j → j < 29 → s.2.2 j q = 0) ∧ (∀ a, gk g a ≠ 0 → h ≤ a ∧ a ≤ h + s.1) ∧ s.1 ≤ 29
section ABM
variable {h a f : Nat} {N : tS} {g : gG}
theorem AbM.newi (e : AbM h g (a, f, N)) {t n : Nat} (ha : a < 29) (ht : tB a = t) (hn : tL a = n) : gx g = h + 1 + a ∧ AbM h (gNewA g t n) (a + 1, f, N) := by
  obtain ⟨e1, e2, e3, e4, e5, e6, e7, e8⟩ := e
  have hx : gx g = h + 1 + a := e1
  refine ⟨hx, ?_, ?_, e3, e4, fun j hj => ?_, fun j q h1 h2 => e6 j q (by show a ≤ j; have : a + 1 ≤ j := h1; omega) h2, fun b hb => ?_, by show a + 1 ≤ 29; omega⟩
  · show gx g + 1 = h + 1 + (a + 1); rw [hx]; omega
  · exact (up1_ne (by omega)).trans e2
  · have hj' : j < a + 1 := hj
    by_cases hja : j = a
    · subst hja
      have hx' : h + 1 + j = gx g := hx.symm
      refine ⟨by rw [hx', ht]; exact up1_pos, by rw [hx', hn]; exact up1_pos, fun q => ?_⟩
      rw [hx']
      show up1 (ga g) (gx g) (fun _ => 0) (gx g) q = _
      rw [up1_pos]
      exact (e6 j q (Nat.le_refl j) ha).symm
    · obtain ⟨q1, q2, q3⟩ := e5 j (by show j < a; omega)
      refine ⟨(up1_ne (by omega)).trans q1, (up1_ne (by omega)).trans q2, fun q => ?_⟩
      show up1 (ga g) (gx g) (fun _ => 0) (h + 1 + j) q = _
      rw [up1_ne (by omega)]
      exact q3 q
  · have hb' : up1 (gk g) (gx g) (100 + t) b ≠ 0 := hb
    show h ≤ b ∧ b ≤ h + (a + 1)
    by_cases hbx : b = gx g
    · omega
    · rw [up1_ne hbx] at hb'
      have := e7 b hb'
      have h3 : h ≤ b ∧ b ≤ h + a := this
      omega
theorem AbM.put (e : AbM h g (a, f, N)) {k : Nat} (hk : k < 34) (hf : tN k = f) (hf2 : f < 29) : gk g h = 14 + 1 ∧ AbM h (gSetR g (57 + k) h (some (h + 1 + f))) (a, f + 1, N) := by
  obtain ⟨e1, e2, e3, e4, e5, e6, e7, e8⟩ := e
  refine ⟨e2, e1, e2, fun k' hk' hlt => ?_, e4, e5, e6, e7, e8⟩
  have hlt' : tN k' < f + 1 := hlt
  show up2 (gr g) (57 + k) h _ (57 + k') h = _
  unfold up2
  by_cases hkk : k' = k
  · subst hkk
    rw [if_pos ⟨rfl, rfl⟩, hf]
  · rw [if_neg (fun z => hkk (by omega))]
    refine e3 k' hk' ?_
    have : tN k' ≠ f := fun z => hkk (tN_inj k' hk' k hk (z.trans hf.symm))
    show tN k' < f
    omega
theorem AbM.getR (e : AbM h g (a, f, N)) {k n : Nat} (hk : k < 34) (hn : tN k = n) (hf : n < f) : gk g h = 14 + 1 ∧ gr g (57 + k) h = some (h + 1 + n) := by
  subst hn
  exact ⟨e.2.1, e.2.2.1 k hk hf⟩
theorem AbM.setA (e : AbM h g (a, f, N)) {n j L : Nat} {v : Int32} (hn : n < a) (hb : tB n = 0) (hL : tL n = L) : gk g (h + 1 + n) = 100 ∧ gl g (h + 1 + n) = L ∧ AbM h (gSetA g (h + 1 + n) j v) (a, f, tset N n j v) := by
  obtain ⟨e1, e2, e3, e4, e5, e6, e7, e8⟩ := e
  obtain ⟨q1, q2, q3⟩ := e5 n hn
  refine ⟨by rw [q1, hb], by rw [q2, hL], e1, e2, e3, fun k hk hg => ?_, fun j' hj' => ?_, fun j' q h1 h2 => ?_, e7, e8⟩
  · show gi g (57 + k) h = tset N n j v (tN k) 0
    rw [tset_nk _ _ (by have : a ≤ 29 := e8; omega)]
    exact e4 k hk hg
  · obtain ⟨r1, r2, r3⟩ := e5 j' hj'
    refine ⟨r1, r2, fun q => ?_⟩
    show up2 (ga g) (h + 1 + n) j v (h + 1 + j') q = tset N n j v j' q
    unfold up2 tset
    by_cases hz : j' = n ∧ q = j
    · rw [if_pos hz, if_pos ⟨by rw [hz.1], hz.2⟩]
    · rw [if_neg hz, if_neg (fun z => hz ⟨by omega, z.2⟩)]
      exact r3 q
  · show tset N n j v j' q = 0
    rw [tset_nk _ _ (by have : a ≤ j' := h1; omega)]
    exact e6 j' q h1 h2
theorem AbM.setI (e : AbM h g (a, f, N)) {k n : Nat} {v : Int32} (hk : k < 34) (hn : tN k = n) (h29 : 29 ≤ n) : gk g h = 14 + 1 ∧ AbM h (gSetI g (57 + k) h v) (a, f, tset N n 0 v) := by
  obtain ⟨e1, e2, e3, e4, e5, e6, e7, e8⟩ := e
  have e8' : a ≤ 29 := e8
  refine ⟨e2, e1, e2, e3, fun k' hk' hg => ?_, fun j' hj' => ?_, fun j' q h1 h2 => ?_, e7, e8⟩
  · show up2 (gi g) (57 + k) h v (57 + k') h = tset N n 0 v (tN k') 0
    unfold up2 tset
    by_cases hkk : k' = k
    · subst hkk
      rw [if_pos ⟨rfl, rfl⟩, if_pos ⟨hn, rfl⟩]
    · rw [if_neg (fun z => hkk (by omega)), if_neg (fun z => hkk (tN_inj k' hk' k hk (z.1.trans hn.symm)))]
      exact e4 k' hk' hg
  · obtain ⟨r1, r2, r3⟩ := e5 j' hj'
    have hj2 : j' < a := hj'
    refine ⟨r1, r2, fun q => ?_⟩
    rw [show (a, f, tset N n 0 v).2.2 j' q = N j' q from tset_nk _ _ (by omega)]
    exact r3 q
  · rw [show (a, f, tset N n 0 v).2.2 j' q = N j' q from tset_nk _ _ (by omega)]
    exact e6 j' q h1 h2
/-- made: as the twin's world has it -/
theorem AbM.holdT {X : gCx} {H : Heap} (hG : HoldG X g H) (e : AbM h g (29, 29, N)) : HoldT X h (h + 30) N H := by
  obtain ⟨e1, e2, e3, e4, e5, e6, e7, e8⟩ := e
  have nz : ∀ k, k < 29 → gk g (h + 1 + k) ≠ 0 := fun k hk => by rw [(e5 k hk).1]; omega
  refine ⟨hG.1.trans (e1.trans (by show h + 1 + 29 = _; omega)), ⟨(hG.2.1 h (by rw [e2]; omega)).1, fun k hk => (hG.2.1 _ (nz k hk)).1⟩, ?_, fun k hk => ?_⟩
  · refine (hG.obj k_Mod (show gk g h = 14 + 1 from e2)).to (fun k hk => ?_)
    have hfn : gFn 14 k = 57 + k := (by decide : ∀ k, k < 34 → gFn 14 k = 57 + k) k hk
    have hrf : gIsRef (57 + k) = decide (tN k < 29) := (by decide : ∀ k, k < 34 → gIsRef (57 + k) = decide (tN k < 29)) k hk
    unfold gV tV
    rw [hfn, hrf]
    by_cases hlt : tN k < 29
    · rw [if_pos (by simpa using hlt), if_pos hlt, e3 k hk hlt]
      rfl
    · rw [if_neg (by simpa using hlt), if_neg hlt, e4 k hk (by omega)]
  · obtain ⟨q1, q2, q3⟩ := e5 k hk
    have hB : tB k < 5 := by unfold tB; split <;> decide
    have hB2 : tB k < 2 := by unfold tB; split <;> decide
    rw [(hG.2.2.2 (h + 1 + k) (tB k) hB q1).1, q2]
    congr 2
    funext j
    unfold gW
    rw [if_pos hB2, q3 j]
end ABM
def tFr : Nat → tS → tS
  | 0, N => N
  | i + 1, N => tset (tFr i N) 18 i (-1)
def tHm : Nat → tS → tS
  | 0, N => N
  | i + 1, N => tset (tset (tHm i N) 25 i (nI 4)) 26 i (nI i)
/-- a new twin's contents -/
def tNew : tS := tset (tHm 10 (tFr 16 (fun _ _ => 0))) 31 0 (nI 10)

set_option maxHeartbeats 4000000 in
theorem c_Mod_init (X : gCx) (l : Launch) (h : Nat) : gMv X l (HoldP X (AbM h)) M_Mod_init 2 29 794 [.ref h] (0, 0, fun _ _ => 0) (29, 29, tNew) := by
  refine gM_intro (by decide) (Nat.le_of_ble_eq_true rfl) (fun K hK => ?_)
  have key3 : ∀ N : tS, tset N 31 0 (nI 10) = tNew → K 282 [(1, .int (nI 10)), (0, .ref h)] [] (29, 29, N) 0 0 := by
    intro N hN
    refine r_aload_n hK d_Mod_init_282 rfl 1 rfl ?_
    refine r_bipush (v := nI 10) hK d_Mod_init_283 (by decide) ?_
    refine p_putI (k := 11) (f := 68) (s' := (29, 29, tset N 31 0 (nI 10))) hK d_Mod_init_285 k_Mod fd_Mod_98_Mod (by decide) rfl rfl rfl rfl rfl (fun g e => e.setI (k := 11) (by decide) rfl (by decide)) ?_
    refine r_vret hK d_Mod_init_288 rfl ?_
    exact ⟨rfl, by rw [hN]⟩
  have key2 : ∀ (k i : Nat), i + k = 10 → K 256 [(1, .int (nI i)), (0, .ref h)] [] (29, 29, tHm i (tFr 16 (fun _ _ => 0))) 0 0 := by
    intro k
    induction k with
    | zero =>
      intro i hi
      have h10 : i = 10 := by omega
      subst h10
      refine r_iload_n hK d_Mod_init_256 rfl 0 rfl ?_
      refine r_bipush (v := nI 10) hK d_Mod_init_257 (by decide) ?_
      refine r_ncmp_ge (a := 10) (b := 10) (tgt := 282) hK d_Mod_init_259 (by decide) (by decide) (by decide) (fun _ => ?_) (fun z => absurd z (by decide))
      exact key3 _ rfl
    | succ k ih =>
      intro i hi
      refine r_iload_n hK d_Mod_init_256 rfl 0 rfl ?_
      refine r_bipush (v := nI 10) hK d_Mod_init_257 (by decide) ?_
      refine r_ncmp_ge (a := i) (b := 10) (tgt := 282) hK d_Mod_init_259 (by decide) (by omega) (by decide) (fun z => absurd z (by omega)) (fun _ => ?_)
      refine r_aload_n hK d_Mod_init_262 rfl 1 rfl ?_
      refine p_getR (k := 29) (f := 86) (v := some (h + 1 + 25)) hK d_Mod_init_263 k_Mod fd_Mod_86_Mod (by decide) rfl rfl (fun g e => e.getR (k := 29) (by decide) rfl (by decide)) ?_
      refine r_iload_n hK d_Mod_init_266 rfl 0 rfl ?_
      refine r_iconst (v := nI 4) hK d_Mod_init_267 (by decide) ?_
      refine p_iast (s' := (29, 29, tset (tHm i (tFr 16 (fun _ _ => 0))) 25 i (nI 4))) hK i 10 d_Mod_init_268 rfl (by omega) (fun g e => e.setA (n := 25) (by decide) rfl rfl) ?_
      refine r_aload_n hK d_Mod_init_269 rfl 1 rfl ?_
      refine p_getR (k := 30) (f := 87) (v := some (h + 1 + 26)) hK d_Mod_init_270 k_Mod fd_Mod_89_Mod (by decide) rfl rfl (fun g e => e.getR (k := 30) (by decide) rfl (by decide)) ?_
      refine r_iload_n hK d_Mod_init_273 rfl 0 rfl ?_
      refine r_iload_n hK d_Mod_init_274 rfl 0 rfl ?_
      refine p_iast (s' := (29, 29, tHm (i + 1) (tFr 16 (fun _ _ => 0)))) hK i 10 d_Mod_init_275 rfl (by omega) (fun g e => e.setA (n := 26) (by decide) rfl rfl) ?_
      refine r_iinc (w := nI (i + 1)) (lv' := [(1, .int (nI (i + 1))), (0, .ref h)]) hK d_Mod_init_276 0 rfl (nI_add _ 1) (by decide) rfl ?_
      refine r_goto (tgt := 256) hK d_Mod_init_279 (by decide) ?_
      exact ih (i + 1) (by omega)
  have key1 : ∀ (k i : Nat), i + k = 16 → K 235 [(1, .int (nI i)), (0, .ref h)] [] (29, 29, tFr i (fun _ _ => 0)) 0 0 := by
    intro k
    induction k with
    | zero =>
      intro i hi
      have h16 : i = 16 := by omega
      subst h16
      refine r_iload_n hK d_Mod_init_235 rfl 0 rfl ?_
      refine r_bipush (v := nI 16) hK d_Mod_init_236 (by decide) ?_
      refine r_ncmp_ge (a := 16) (b := 16) (tgt := 254) hK d_Mod_init_238 (by decide) (by decide) (by decide) (fun _ => ?_) (fun z => absurd z (by decide))
      refine r_iconst (v := nI 0) hK d_Mod_init_254 (by decide) ?_
      refine r_istore_n (lv' := [(1, .int (nI 0)), (0, .ref h)]) hK d_Mod_init_255 rfl (by decide) rfl ?_
      exact key2 10 0 (by decide)
    | succ k ih =>
      intro i hi
      refine r_iload_n hK d_Mod_init_235 rfl 0 rfl ?_
      refine r_bipush (v := nI 16) hK d_Mod_init_236 (by decide) ?_
      refine r_ncmp_ge (a := i) (b := 16) (tgt := 254) hK d_Mod_init_238 (by decide) (by omega) (by decide) (fun z => absurd z (by omega)) (fun _ => ?_)
      refine r_aload_n hK d_Mod_init_241 rfl 1 rfl ?_
      refine p_getR (k := 22) (f := 79) (v := some (h + 1 + 18)) hK d_Mod_init_242 k_Mod fd_Mod_65_Mod (by decide) rfl rfl (fun g e => e.getR (k := 22) (by decide) rfl (by decide)) ?_
      refine r_iload_n hK d_Mod_init_245 rfl 0 rfl ?_
      refine r_iconst (v := -1) hK d_Mod_init_246 (by decide) ?_
      refine p_iast (s' := (29, 29, tFr (i + 1) (fun _ _ => 0))) hK i 16 d_Mod_init_247 rfl (by omega) (fun g e => e.setA (n := 18) (by decide) rfl rfl) ?_
      refine r_iinc (w := nI (i + 1)) (lv' := [(1, .int (nI (i + 1))), (0, .ref h)]) hK d_Mod_init_248 0 rfl (nI_add _ 1) (by decide) rfl ?_
      refine r_goto (tgt := 235) hK d_Mod_init_251 (by decide) ?_
      exact ih (i + 1) (by omega)
  show K 0 [(0, .ref h)] [] (0, 0, fun _ _ => 0) 29 794
  refine r_aload_n hK d_Mod_init_0 rfl 0 rfl ?_
  refine r_objInit hK d_Mod_init_1 ml_Mod_1 ow_1 ow_2 (by decide) (Nat.le_of_ble_eq_true rfl) ?_
  refine r_aload_n hK d_Mod_init_4 rfl 0 rfl ?_
  refine r_bipush (v := nI 8) hK d_Mod_init_5 (by decide) ?_
  refine p_newi (t := 0) (n := 8) (a := h + 1 + 0) (s' := (1, 0, fun _ _ => 0)) hK d_Mod_init_7 (by decide) rfl aw_int rfl (by decide) (fun g e => e.newi (by decide) rfl rfl) ?_
  refine p_putFR (k := 1) (f := 58) (v := some (h + 1 + 0)) (s' := (1, 1, fun _ _ => 0)) hK d_Mod_init_9 k_Mod fl_Mod_7 rfl rfl (by decide) rfl rfl rfl (fun g e => e.put (k := 1) (by decide) rfl (by decide)) ?_
  refine r_aload_n hK d_Mod_init_12 rfl 0 rfl ?_
  refine r_bipush (v := nI 8) hK d_Mod_init_13 (by decide) ?_
  refine p_newi (t := 0) (n := 8) (a := h + 1 + 1) (s' := (2, 1, fun _ _ => 0)) hK d_Mod_init_15 (by decide) rfl aw_int rfl (by decide) (fun g e => e.newi (by decide) rfl rfl) ?_
  refine p_putFR (k := 2) (f := 59) (v := some (h + 1 + 1)) (s' := (2, 2, fun _ _ => 0)) hK d_Mod_init_17 k_Mod fl_Mod_13 rfl rfl (by decide) rfl rfl rfl (fun g e => e.put (k := 2) (by decide) rfl (by decide)) ?_
  refine r_aload_n hK d_Mod_init_20 rfl 0 rfl ?_
  refine r_bipush (v := nI 80) hK d_Mod_init_21 (by decide) ?_
  refine p_newi (t := 0) (n := 80) (a := h + 1 + 2) (s' := (3, 2, fun _ _ => 0)) hK d_Mod_init_23 (by decide) rfl aw_int rfl (by decide) (fun g e => e.newi (by decide) rfl rfl) ?_
  refine p_putFR (k := 3) (f := 60) (v := some (h + 1 + 2)) (s' := (3, 3, fun _ _ => 0)) hK d_Mod_init_25 k_Mod fl_Mod_16 rfl rfl (by decide) rfl rfl rfl (fun g e => e.put (k := 3) (by decide) rfl (by decide)) ?_
  refine r_aload_n hK d_Mod_init_28 rfl 0 rfl ?_
  refine r_bipush (v := nI 80) hK d_Mod_init_29 (by decide) ?_
  refine p_newi (t := 0) (n := 80) (a := h + 1 + 3) (s' := (4, 3, fun _ _ => 0)) hK d_Mod_init_31 (by decide) rfl aw_int rfl (by decide) (fun g e => e.newi (by decide) rfl rfl) ?_
  refine p_putFR (k := 4) (f := 61) (v := some (h + 1 + 3)) (s' := (4, 4, fun _ _ => 0)) hK d_Mod_init_33 k_Mod fl_Mod_19 rfl rfl (by decide) rfl rfl rfl (fun g e => e.put (k := 4) (by decide) rfl (by decide)) ?_
  refine r_aload_n hK d_Mod_init_36 rfl 0 rfl ?_
  refine r_bipush (v := nI 80) hK d_Mod_init_37 (by decide) ?_
  refine p_newi (t := 0) (n := 80) (a := h + 1 + 4) (s' := (5, 4, fun _ _ => 0)) hK d_Mod_init_39 (by decide) rfl aw_int rfl (by decide) (fun g e => e.newi (by decide) rfl rfl) ?_
  refine p_putFR (k := 5) (f := 62) (v := some (h + 1 + 4)) (s' := (5, 5, fun _ _ => 0)) hK d_Mod_init_41 k_Mod fl_Mod_22 rfl rfl (by decide) rfl rfl rfl (fun g e => e.put (k := 5) (by decide) rfl (by decide)) ?_
  refine r_aload_n hK d_Mod_init_44 rfl 0 rfl ?_
  refine r_bipush (v := nI 80) hK d_Mod_init_45 (by decide) ?_
  refine p_newi (t := 0) (n := 80) (a := h + 1 + 5) (s' := (6, 5, fun _ _ => 0)) hK d_Mod_init_47 (by decide) rfl aw_int rfl (by decide) (fun g e => e.newi (by decide) rfl rfl) ?_
  refine p_putFR (k := 6) (f := 63) (v := some (h + 1 + 5)) (s' := (6, 6, fun _ _ => 0)) hK d_Mod_init_49 k_Mod fl_Mod_25 rfl rfl (by decide) rfl rfl rfl (fun g e => e.put (k := 6) (by decide) rfl (by decide)) ?_
  refine r_aload_n hK d_Mod_init_52 rfl 0 rfl ?_
  refine r_bipush (v := nI 80) hK d_Mod_init_53 (by decide) ?_
  refine p_newi (t := 0) (n := 80) (a := h + 1 + 6) (s' := (7, 6, fun _ _ => 0)) hK d_Mod_init_55 (by decide) rfl aw_int rfl (by decide) (fun g e => e.newi (by decide) rfl rfl) ?_
  refine p_putFR (k := 7) (f := 64) (v := some (h + 1 + 6)) (s' := (7, 7, fun _ _ => 0)) hK d_Mod_init_57 k_Mod fl_Mod_28 rfl rfl (by decide) rfl rfl rfl (fun g e => e.put (k := 7) (by decide) rfl (by decide)) ?_
  refine r_aload_n hK d_Mod_init_60 rfl 0 rfl ?_
  refine r_bipush (v := nI 8) hK d_Mod_init_61 (by decide) ?_
  refine p_newi (t := 0) (n := 8) (a := h + 1 + 7) (s' := (8, 7, fun _ _ => 0)) hK d_Mod_init_63 (by decide) rfl aw_int rfl (by decide) (fun g e => e.newi (by decide) rfl rfl) ?_
  refine p_putFR (k := 8) (f := 65) (v := some (h + 1 + 7)) (s' := (8, 8, fun _ _ => 0)) hK d_Mod_init_65 k_Mod fl_Mod_31 rfl rfl (by decide) rfl rfl rfl (fun g e => e.put (k := 8) (by decide) rfl (by decide)) ?_
  refine r_aload_n hK d_Mod_init_68 rfl 0 rfl ?_
  refine r_bipush (v := nI 8) hK d_Mod_init_69 (by decide) ?_
  refine p_newi (t := 0) (n := 8) (a := h + 1 + 8) (s' := (9, 8, fun _ _ => 0)) hK d_Mod_init_71 (by decide) rfl aw_int rfl (by decide) (fun g e => e.newi (by decide) rfl rfl) ?_
  refine p_putFR (k := 9) (f := 66) (v := some (h + 1 + 8)) (s' := (9, 9, fun _ _ => 0)) hK d_Mod_init_73 k_Mod fl_Mod_34 rfl rfl (by decide) rfl rfl rfl (fun g e => e.put (k := 9) (by decide) rfl (by decide)) ?_
  refine r_aload_n hK d_Mod_init_76 rfl 0 rfl ?_
  refine r_bipush (v := nI 8) hK d_Mod_init_77 (by decide) ?_
  refine p_newi (t := 0) (n := 8) (a := h + 1 + 9) (s' := (10, 9, fun _ _ => 0)) hK d_Mod_init_79 (by decide) rfl aw_int rfl (by decide) (fun g e => e.newi (by decide) rfl rfl) ?_
  refine p_putFR (k := 10) (f := 67) (v := some (h + 1 + 9)) (s' := (10, 10, fun _ _ => 0)) hK d_Mod_init_81 k_Mod fl_Mod_37 rfl rfl (by decide) rfl rfl rfl (fun g e => e.put (k := 10) (by decide) rfl (by decide)) ?_
  refine r_aload_n hK d_Mod_init_84 rfl 0 rfl ?_
  refine r_bipush (v := nI 8) hK d_Mod_init_85 (by decide) ?_
  refine p_newi (t := 0) (n := 8) (a := h + 1 + 10) (s' := (11, 10, fun _ _ => 0)) hK d_Mod_init_87 (by decide) rfl aw_int rfl (by decide) (fun g e => e.newi (by decide) rfl rfl) ?_
  refine p_putFR (k := 12) (f := 69) (v := some (h + 1 + 10)) (s' := (11, 11, fun _ _ => 0)) hK d_Mod_init_89 k_Mod fl_Mod_40 rfl rfl (by decide) rfl rfl rfl (fun g e => e.put (k := 12) (by decide) rfl (by decide)) ?_
  refine r_aload_n hK d_Mod_init_92 rfl 0 rfl ?_
  refine r_bipush (v := nI 8) hK d_Mod_init_93 (by decide) ?_
  refine p_newi (t := 0) (n := 8) (a := h + 1 + 11) (s' := (12, 11, fun _ _ => 0)) hK d_Mod_init_95 (by decide) rfl aw_int rfl (by decide) (fun g e => e.newi (by decide) rfl rfl) ?_
  refine p_putFR (k := 13) (f := 70) (v := some (h + 1 + 11)) (s' := (12, 12, fun _ _ => 0)) hK d_Mod_init_97 k_Mod fl_Mod_43 rfl rfl (by decide) rfl rfl rfl (fun g e => e.put (k := 13) (by decide) rfl (by decide)) ?_
  refine r_aload_n hK d_Mod_init_100 rfl 0 rfl ?_
  refine r_bipush (v := nI 8) hK d_Mod_init_101 (by decide) ?_
  refine p_newi (t := 0) (n := 8) (a := h + 1 + 12) (s' := (13, 12, fun _ _ => 0)) hK d_Mod_init_103 (by decide) rfl aw_int rfl (by decide) (fun g e => e.newi (by decide) rfl rfl) ?_
  refine p_putFR (k := 14) (f := 71) (v := some (h + 1 + 12)) (s' := (13, 13, fun _ _ => 0)) hK d_Mod_init_105 k_Mod fl_Mod_46 rfl rfl (by decide) rfl rfl rfl (fun g e => e.put (k := 14) (by decide) rfl (by decide)) ?_
  refine r_aload_n hK d_Mod_init_108 rfl 0 rfl ?_
  refine r_bipush (v := nI 8) hK d_Mod_init_109 (by decide) ?_
  refine p_newi (t := 0) (n := 8) (a := h + 1 + 13) (s' := (14, 13, fun _ _ => 0)) hK d_Mod_init_111 (by decide) rfl aw_int rfl (by decide) (fun g e => e.newi (by decide) rfl rfl) ?_
  refine p_putFR (k := 15) (f := 72) (v := some (h + 1 + 13)) (s' := (14, 14, fun _ _ => 0)) hK d_Mod_init_113 k_Mod fl_Mod_49 rfl rfl (by decide) rfl rfl rfl (fun g e => e.put (k := 15) (by decide) rfl (by decide)) ?_
  refine r_aload_n hK d_Mod_init_116 rfl 0 rfl ?_
  refine r_bipush (v := nI 8) hK d_Mod_init_117 (by decide) ?_
  refine p_newi (t := 0) (n := 8) (a := h + 1 + 14) (s' := (15, 14, fun _ _ => 0)) hK d_Mod_init_119 (by decide) rfl aw_int rfl (by decide) (fun g e => e.newi (by decide) rfl rfl) ?_
  refine p_putFR (k := 16) (f := 73) (v := some (h + 1 + 14)) (s' := (15, 15, fun _ _ => 0)) hK d_Mod_init_121 k_Mod fl_Mod_52 rfl rfl (by decide) rfl rfl rfl (fun g e => e.put (k := 16) (by decide) rfl (by decide)) ?_
  refine r_aload_n hK d_Mod_init_124 rfl 0 rfl ?_
  refine r_bipush (v := nI 8) hK d_Mod_init_125 (by decide) ?_
  refine p_newi (t := 1) (n := 8) (a := h + 1 + 15) (s' := (16, 15, fun _ _ => 0)) hK d_Mod_init_127 (by decide) rfl aw_boolean rfl (by decide) (fun g e => e.newi (by decide) rfl rfl) ?_
  refine p_putFR (k := 17) (f := 74) (v := some (h + 1 + 15)) (s' := (16, 16, fun _ _ => 0)) hK d_Mod_init_129 k_Mod fl_Mod_55 rfl rfl (by decide) rfl rfl rfl (fun g e => e.put (k := 17) (by decide) rfl (by decide)) ?_
  refine r_aload_n hK d_Mod_init_132 rfl 0 rfl ?_
  refine r_bipush (v := nI 32) hK d_Mod_init_133 (by decide) ?_
  refine p_newi (t := 0) (n := 32) (a := h + 1 + 16) (s' := (17, 16, fun _ _ => 0)) hK d_Mod_init_135 (by decide) rfl aw_int rfl (by decide) (fun g e => e.newi (by decide) rfl rfl) ?_
  refine p_putFR (k := 18) (f := 75) (v := some (h + 1 + 16)) (s' := (17, 17, fun _ _ => 0)) hK d_Mod_init_137 k_Mod fl_Mod_59 rfl rfl (by decide) rfl rfl rfl (fun g e => e.put (k := 18) (by decide) rfl (by decide)) ?_
  refine r_aload_n hK d_Mod_init_140 rfl 0 rfl ?_
  refine r_bipush (v := nI 8) hK d_Mod_init_141 (by decide) ?_
  refine p_newi (t := 0) (n := 8) (a := h + 1 + 17) (s' := (18, 17, fun _ _ => 0)) hK d_Mod_init_143 (by decide) rfl aw_int rfl (by decide) (fun g e => e.newi (by decide) rfl rfl) ?_
  refine p_putFR (k := 19) (f := 76) (v := some (h + 1 + 17)) (s' := (18, 18, fun _ _ => 0)) hK d_Mod_init_145 k_Mod fl_Mod_62 rfl rfl (by decide) rfl rfl rfl (fun g e => e.put (k := 19) (by decide) rfl (by decide)) ?_
  refine r_aload_n hK d_Mod_init_148 rfl 0 rfl ?_
  refine r_bipush (v := nI 16) hK d_Mod_init_149 (by decide) ?_
  refine p_newi (t := 0) (n := 16) (a := h + 1 + 18) (s' := (19, 18, fun _ _ => 0)) hK d_Mod_init_151 (by decide) rfl aw_int rfl (by decide) (fun g e => e.newi (by decide) rfl rfl) ?_
  refine p_putFR (k := 22) (f := 79) (v := some (h + 1 + 18)) (s' := (19, 19, fun _ _ => 0)) hK d_Mod_init_153 k_Mod fl_Mod_65 rfl rfl (by decide) rfl rfl rfl (fun g e => e.put (k := 22) (by decide) rfl (by decide)) ?_
  refine r_aload_n hK d_Mod_init_156 rfl 0 rfl ?_
  refine r_bipush (v := nI 16) hK d_Mod_init_157 (by decide) ?_
  refine p_newi (t := 1) (n := 16) (a := h + 1 + 19) (s' := (20, 19, fun _ _ => 0)) hK d_Mod_init_159 (by decide) rfl aw_boolean rfl (by decide) (fun g e => e.newi (by decide) rfl rfl) ?_
  refine p_putFR (k := 23) (f := 80) (v := some (h + 1 + 19)) (s' := (20, 20, fun _ _ => 0)) hK d_Mod_init_161 k_Mod fl_Mod_68 rfl rfl (by decide) rfl rfl rfl (fun g e => e.put (k := 23) (by decide) rfl (by decide)) ?_
  refine r_aload_n hK d_Mod_init_164 rfl 0 rfl ?_
  refine r_iconst (v := nI 4) hK d_Mod_init_165 (by decide) ?_
  refine p_newi (t := 1) (n := 4) (a := h + 1 + 20) (s' := (21, 20, fun _ _ => 0)) hK d_Mod_init_166 (by decide) rfl aw_boolean rfl (by decide) (fun g e => e.newi (by decide) rfl rfl) ?_
  refine p_putFR (k := 24) (f := 81) (v := some (h + 1 + 20)) (s' := (21, 21, fun _ _ => 0)) hK d_Mod_init_168 k_Mod fl_Mod_71 rfl rfl (by decide) rfl rfl rfl (fun g e => e.put (k := 24) (by decide) rfl (by decide)) ?_
  refine r_aload_n hK d_Mod_init_171 rfl 0 rfl ?_
  refine r_bipush (v := nI 10) hK d_Mod_init_172 (by decide) ?_
  refine p_newi (t := 0) (n := 10) (a := h + 1 + 21) (s' := (22, 21, fun _ _ => 0)) hK d_Mod_init_174 (by decide) rfl aw_int rfl (by decide) (fun g e => e.newi (by decide) rfl rfl) ?_
  refine p_putFR (k := 25) (f := 82) (v := some (h + 1 + 21)) (s' := (22, 22, fun _ _ => 0)) hK d_Mod_init_176 k_Mod fl_Mod_74 rfl rfl (by decide) rfl rfl rfl (fun g e => e.put (k := 25) (by decide) rfl (by decide)) ?_
  refine r_aload_n hK d_Mod_init_179 rfl 0 rfl ?_
  refine r_bipush (v := nI 64) hK d_Mod_init_180 (by decide) ?_
  refine p_newi (t := 0) (n := 64) (a := h + 1 + 22) (s' := (23, 22, fun _ _ => 0)) hK d_Mod_init_182 (by decide) rfl aw_int rfl (by decide) (fun g e => e.newi (by decide) rfl rfl) ?_
  refine p_putFR (k := 26) (f := 83) (v := some (h + 1 + 22)) (s' := (23, 23, fun _ _ => 0)) hK d_Mod_init_184 k_Mod fl_Mod_77 rfl rfl (by decide) rfl rfl rfl (fun g e => e.put (k := 26) (by decide) rfl (by decide)) ?_
  refine r_aload_n hK d_Mod_init_187 rfl 0 rfl ?_
  refine r_bipush (v := nI 64) hK d_Mod_init_188 (by decide) ?_
  refine p_newi (t := 0) (n := 64) (a := h + 1 + 23) (s' := (24, 23, fun _ _ => 0)) hK d_Mod_init_190 (by decide) rfl aw_int rfl (by decide) (fun g e => e.newi (by decide) rfl rfl) ?_
  refine p_putFR (k := 27) (f := 84) (v := some (h + 1 + 23)) (s' := (24, 24, fun _ _ => 0)) hK d_Mod_init_192 k_Mod fl_Mod_80 rfl rfl (by decide) rfl rfl rfl (fun g e => e.put (k := 27) (by decide) rfl (by decide)) ?_
  refine r_aload_n hK d_Mod_init_195 rfl 0 rfl ?_
  refine r_bipush (v := nI 64) hK d_Mod_init_196 (by decide) ?_
  refine p_newi (t := 1) (n := 64) (a := h + 1 + 24) (s' := (25, 24, fun _ _ => 0)) hK d_Mod_init_198 (by decide) rfl aw_boolean rfl (by decide) (fun g e => e.newi (by decide) rfl rfl) ?_
  refine p_putFR (k := 28) (f := 85) (v := some (h + 1 + 24)) (s' := (25, 25, fun _ _ => 0)) hK d_Mod_init_200 k_Mod fl_Mod_83 rfl rfl (by decide) rfl rfl rfl (fun g e => e.put (k := 28) (by decide) rfl (by decide)) ?_
  refine r_aload_n hK d_Mod_init_203 rfl 0 rfl ?_
  refine r_bipush (v := nI 10) hK d_Mod_init_204 (by decide) ?_
  refine p_newi (t := 0) (n := 10) (a := h + 1 + 25) (s' := (26, 25, fun _ _ => 0)) hK d_Mod_init_206 (by decide) rfl aw_int rfl (by decide) (fun g e => e.newi (by decide) rfl rfl) ?_
  refine p_putFR (k := 29) (f := 86) (v := some (h + 1 + 25)) (s' := (26, 26, fun _ _ => 0)) hK d_Mod_init_208 k_Mod fl_Mod_86 rfl rfl (by decide) rfl rfl rfl (fun g e => e.put (k := 29) (by decide) rfl (by decide)) ?_
  refine r_aload_n hK d_Mod_init_211 rfl 0 rfl ?_
  refine r_bipush (v := nI 10) hK d_Mod_init_212 (by decide) ?_
  refine p_newi (t := 0) (n := 10) (a := h + 1 + 26) (s' := (27, 26, fun _ _ => 0)) hK d_Mod_init_214 (by decide) rfl aw_int rfl (by decide) (fun g e => e.newi (by decide) rfl rfl) ?_
  refine p_putFR (k := 30) (f := 87) (v := some (h + 1 + 26)) (s' := (27, 27, fun _ _ => 0)) hK d_Mod_init_216 k_Mod fl_Mod_89 rfl rfl (by decide) rfl rfl rfl (fun g e => e.put (k := 30) (by decide) rfl (by decide)) ?_
  refine r_aload_n hK d_Mod_init_219 rfl 0 rfl ?_
  refine r_iconst (v := nI 4) hK d_Mod_init_220 (by decide) ?_
  refine p_newi (t := 1) (n := 4) (a := h + 1 + 27) (s' := (28, 27, fun _ _ => 0)) hK d_Mod_init_221 (by decide) rfl aw_boolean rfl (by decide) (fun g e => e.newi (by decide) rfl rfl) ?_
  refine p_putFR (k := 31) (f := 88) (v := some (h + 1 + 27)) (s' := (28, 28, fun _ _ => 0)) hK d_Mod_init_223 k_Mod fl_Mod_92 rfl rfl (by decide) rfl rfl rfl (fun g e => e.put (k := 31) (by decide) rfl (by decide)) ?_
  refine r_aload_n hK d_Mod_init_226 rfl 0 rfl ?_
  refine r_iconst (v := nI 4) hK d_Mod_init_227 (by decide) ?_
  refine p_newi (t := 0) (n := 4) (a := h + 1 + 28) (s' := (29, 28, fun _ _ => 0)) hK d_Mod_init_228 (by decide) rfl aw_int rfl (by decide) (fun g e => e.newi (by decide) rfl rfl) ?_
  refine p_putFR (k := 32) (f := 89) (v := some (h + 1 + 28)) (s' := (29, 29, fun _ _ => 0)) hK d_Mod_init_230 k_Mod fl_Mod_95 rfl rfl (by decide) rfl rfl rfl (fun g e => e.put (k := 32) (by decide) rfl (by decide)) ?_
  refine r_iconst (v := nI 0) hK d_Mod_init_233 (by decide) ?_
  refine r_istore_n (lv' := [(1, .int (nI 0)), (0, .ref h)]) hK d_Mod_init_234 rfl (by decide) rfl ?_
  exact key1 16 0 (by decide)
