/-! the component's picture: lines, array lists and chains of translations as lists; the rest by fields -/
abbrev sS : Type := gG × (Nat → List Nat) × (Nat → List Nat) × (Nat → List Nat)
/-- what a line holds; what an array list holds; a processor's translations, the earliest first -/
abbrev sq (s : sS) : Nat → List Nat := s.2.1
abbrev sl (s : sS) : Nat → List Nat := s.2.2.1
abbrev sr (s : sS) : Nat → List Nat := s.2.2.2
/-- the fields that the picture shows -/
def vis (f : Nat) : Bool := !([12, 13, 19, 20, 21, 22, 23, 27, 54, 55, 56].contains f)
def LineAt (g : gG) (a : Nat) (cs l : List Nat) : Prop :=
  gr g 19 a = cs.head? ∧ gr g 20 a = cs.getLast? ∧ gi g 21 a = nI l.length ∧ cs.length = l.length ∧ cs.Nodup ∧ ∀ (i c : Nat), cs[i]? = some c → gr g 22 c = l[i]? ∧ gr g 23 c = cs[i + 1]?
def Lines (g : gG) (s : sS) (cs : Nat → List Nat) : Prop :=
  (∀ a, gk s.1 a = 4 → LineAt g a (cs a) (sq s a)) ∧ (∀ a c, gk s.1 a = 4 → c ∈ cs a → gk s.1 c = 0 ∧ gk g c = 5) ∧ ∀ a b c, gk s.1 a = 4 → gk s.1 b = 4 → c ∈ cs a → c ∈ cs b → a = b
def ListAt (X : gCx) (g : gG) (s : sS) (a b : Nat) : Prop :=
  gr g 54 a = some b ∧ gi g 55 a = nI (sl s a).length ∧ (sl s a).length ≤ 10 ∧ ((sl s a = [] ∧ b = cxZ X) ∨ (sl s a ≠ [] ∧ gk g b = 104 ∧ gk s.1 b = 0 ∧ gl g b = 10 ∧ ∀ j v, (sl s a)[j]? = some v → gb g b j = some v))
def Lists (X : gCx) (g : gG) (s : sS) (ar : Nat → Nat) : Prop :=
  (∀ a, gk s.1 a = 14 → ListAt X g s a (ar a)) ∧ ∀ a b, gk s.1 a = 14 → gk s.1 b = 14 → gk g (ar a) = 104 → ar a = ar b → a = b
def TransAt (g : gG) (p : Nat) (ts : List Nat) : Prop :=
  gr g 12 p = ts.head? ∧ gi g 13 p = nI ts.length ∧ ts.length ≤ 3 ∧ ts.Nodup ∧ ∀ (i t : Nat), ts[i]? = some t → gr g 27 t = ts[i + 1]?
def Trans (g : gG) (s : sS) : Prop :=
  (∀ p, gk s.1 p = 3 → TransAt g p (sr s p) ∧ ∀ t ∈ sr s p, gk s.1 t = 6) ∧ ∀ p q t, gk s.1 p = 3 → gk s.1 q = 3 → t ∈ sr s p → t ∈ sr s q → p = q
/-- a translation that was never put in -/
def Fresh (g : gG) (s : sS) : Prop := (∀ t, gk s.1 t = 6 → gr s.1 27 t = none → gr g 27 t = none ∧ ∀ p, gk s.1 p = 3 → t ∉ sr s p) ∧ ∀ a, gk s.1 a = 64 → gi g 55 a = 0
def Abs (X : gCx) (g : gG) (s : sS) : Prop :=
  (gx g = gx s.1 ∧ (∀ a, gk g a ≠ 0 → a < gx g) ∧ gk g (cxZ X) = 0 ∧ cxZ X < gx g) ∧
  (∀ a, gk s.1 a ≠ 0 → gk g a = if gk s.1 a = 64 then 14 else gk s.1 a) ∧
  (∀ a, 100 ≤ gk s.1 a → gl g a = gl s.1 a ∧ ga g a = ga s.1 a ∧ gb g a = gb s.1 a) ∧
  (∀ f a, gk s.1 a ≠ 0 → gk s.1 a < 100 → vis f = true → gi g f a = gi s.1 f a ∧ gr g f a = gr s.1 f a) ∧
  (∃ cs, Lines g s cs) ∧ (∃ ar, Lists X g s ar) ∧ Trans g s ∧ Fresh g s
def sSetI (s : sS) (f a : Nat) (v : Int32) : sS := (gSetI s.1 f a v, s.2)
def sSetR (s : sS) (f a : Nat) (v : Option Nat) : sS := (gSetR s.1 f a v, s.2)
def sSetA (s : sS) (a j : Nat) (v : Int32) : sS := (gSetA s.1 a j v, s.2)
def sSetB (s : sS) (a j : Nat) (v : Option Nat) : sS := (gSetB s.1 a j v, s.2)
def sSetQ (s : sS) (a : Nat) (l : List Nat) : sS := (s.1, up1 (sq s) a l, sl s, sr s)
def sSetL (s : sS) (a : Nat) (l : List Nat) : sS := (s.1, sq s, up1 (sl s) a l, sr s)
def sSetT (s : sS) (a : Nat) (l : List Nat) : sS := (s.1, sq s, sl s, up1 (sr s) a l)
/-- a cell more that the picture does not show -/
def sBump (s : sS) : sS := ((gx s.1 + 1, s.1.2), s.2)
def sNew (s : sS) (c : Nat) : sS := (gNew s.1 c, up1 (sq s) (gx s.1) [], sl s, up1 (sr s) (gx s.1) [])
def sNewA (s : sS) (t n : Nat) : sS := (gNewA s.1 t n, s.2)
/-- a new array list, not yet begun -/
def sNewL (s : sS) : sS := (gNew s.1 63, s.2)
/-- its constructor is over -/
def sBegL (s : sS) (a : Nat) : sS := ((gx s.1, up1 (gk s.1) a 14, s.1.2.2), sq s, up1 (sl s) a [], sr s)
section ABS
variable {X : gCx} {g : gG} {s : sS}
theorem Abs.kd (h : Abs X g s) {a c : Nat} (hk : gk s.1 a = c + 1) (hc : c < 63) : gk g a = c + 1 := by
  have := h.2.1 a (by rw [hk]; omega)
  rw [hk, if_neg (by omega)] at this
  exact this
theorem Abs.getI (h : Abs X g s) {a c f : Nat} {v : Int32} (hk : gk s.1 a = c + 1) (hc : c < 63) (hf : vis f = true) (hv : gi s.1 f a = v) : gk g a = c + 1 ∧ gi g f a = v :=
  ⟨h.kd hk hc, (h.2.2.2.1 f a (by rw [hk]; omega) (by rw [hk]; omega) hf).1.trans hv⟩
theorem Abs.getR (h : Abs X g s) {a c f : Nat} {v : Option Nat} (hk : gk s.1 a = c + 1) (hc : c < 63) (hf : vis f = true) (hv : gr s.1 f a = v) : gk g a = c + 1 ∧ gr g f a = v :=
  ⟨h.kd hk hc, (h.2.2.2.1 f a (by rw [hk]; omega) (by rw [hk]; omega) hf).2.trans hv⟩
theorem Abs.arr (h : Abs X g s) {a t L j : Nat} (hk : gk s.1 a = 100 + t) (hL : gl s.1 a = L) : gk g a = 100 + t ∧ gl g a = L ∧ ga g a j = ga s.1 a j ∧ gb g a j = gb s.1 a j := by
  obtain ⟨h1, h2, h3⟩ := h.2.2.1 a (by rw [hk]; omega)
  refine ⟨?_, h1.trans hL, by rw [h2], by rw [h3]⟩
  have := h.2.1 a (by rw [hk]; omega)
  rw [hk, if_neg (by omega)] at this
  exact this
theorem vis_ne {f k : Nat} (hf : vis f = true) (hk : vis k = false) : f ≠ k := fun z => by rw [z, hk] at hf; cases hf
theorem LineAt.kept {g g' : gG} {a : Nat} {cs l : List Nat} (h : LineAt g a cs l) (h1 : gr g' 19 a = gr g 19 a) (h2 : gr g' 20 a = gr g 20 a) (h3 : gi g' 21 a = gi g 21 a) (h4 : ∀ c ∈ cs, gr g' 22 c = gr g 22 c ∧ gr g' 23 c = gr g 23 c) : LineAt g' a cs l := by
  obtain ⟨e1, e2, e3, e4, e5, e6⟩ := h
  refine ⟨h1.trans e1, h2.trans e2, h3.trans e3, e4, e5, fun i c hc => ?_⟩
  obtain ⟨q1, q2⟩ := h4 c (List.mem_of_getElem? hc)
  rw [q1, q2]
  exact e6 i c hc
theorem TransAt.kept {g g' : gG} {p : Nat} {ts : List Nat} (h : TransAt g p ts) (h1 : gr g' 12 p = gr g 12 p) (h2 : gi g' 13 p = gi g 13 p) (h3 : ∀ t ∈ ts, gr g' 27 t = gr g 27 t) : TransAt g' p ts := by
  obtain ⟨e1, e2, e3, e4, e5⟩ := h
  refine ⟨h1.trans e1, h2.trans e2, e3, e4, fun i t ht => ?_⟩
  rw [h3 t (List.mem_of_getElem? ht)]
  exact e5 i t ht
/-- a change of what the picture shows alone -/
theorem Abs.plain {g' : gG} {s' : sS} (h : Abs X g s) (hx : gx g' = gx g) (hx' : gx s'.1 = gx s.1) (hk : gk g' = gk g) (hk' : gk s'.1 = gk s.1) (hl : gl g' = gl g) (hl' : gl s'.1 = gl s.1) (hs : s'.2 = s.2) (hi : ∀ k a, vis k = false → gi g' k a = gi g k a) (hr : ∀ k a, vis k = false → gr g' k a = gr g k a) (ha : ∀ a, 100 ≤ gk s.1 a → ga g' a = ga s'.1 a ∧ gb g' a = gb s'.1 a) (hb : ∀ a, gk s.1 a = 0 → gb g' a = gb g a) (hF : ∀ a, gr s'.1 27 a = gr s.1 27 a)
    (hv : ∀ f a, gk s.1 a ≠ 0 → gk s.1 a < 100 → vis f = true → gi g' f a = gi s'.1 f a ∧ gr g' f a = gr s'.1 f a) : Abs X g' s' := by
  obtain ⟨⟨a1, a2, a3, a4⟩, b, c, d, ⟨cs, e1, e2, e3⟩, ⟨ar, f1, f2⟩, ⟨t1, t2⟩, t3, t4⟩ := h
  have hq : sq s' = sq s := by show s'.2.1 = s.2.1; rw [hs]
  have hL : sl s' = sl s := by show s'.2.2.1 = s.2.2.1; rw [hs]
  have hR : sr s' = sr s := by show s'.2.2.2 = s.2.2.2; rw [hs]
  refine ⟨⟨by rw [hx, hx']; exact a1, by rw [hk, hx]; exact a2, by rw [hk]; exact a3, by rw [hx]; exact a4⟩, by rw [hk, hk']; exact b, fun a hka => ?_, fun f a hka hk2 hf => ?_, ⟨cs, ?_, by rw [hk, hk']; exact e2, by rw [hk']; exact e3⟩, ⟨ar, ?_, by rw [hk, hk']; exact f2⟩, ⟨?_, by rw [hk', hR]; exact t2⟩, ?_, ?_⟩
  · rw [hk'] at hka
    rw [hl, hl']
    exact ⟨(c a hka).1, (ha a hka).1, (ha a hka).2⟩
  · rw [hk'] at hka hk2
    exact hv f a hka hk2 hf
  · rw [hk', hq]
    exact fun a hka => (e1 a hka).kept (hr 19 a rfl) (hr 20 a rfl) (hi 21 a rfl) (fun c _ => ⟨hr 22 c rfl, hr 23 c rfl⟩)
  · rw [hk']
    intro a hka
    obtain ⟨q1, q2, q3, q4⟩ := f1 a hka
    refine ⟨(hr 54 a rfl).trans q1, by rw [hL]; exact (hi 55 a rfl).trans q2, by rw [hL]; exact q3, ?_⟩
    rcases q4 with ⟨q4, q5⟩ | ⟨q0, q4, q5, q6, q7⟩
    · exact Or.inl ⟨by rw [hL]; exact q4, q5⟩
    · refine Or.inr ⟨by rw [hL]; exact q0, by rw [hk]; exact q4, by rw [hk']; exact q5, by rw [hl]; exact q6, fun j v hj => ?_⟩
      rw [hL] at hj
      rw [hb _ q5]
      exact q7 j v hj
  · rw [hk', hR]
    exact fun p hp => ⟨(t1 p hp).1.kept (hr 12 p rfl) (hi 13 p rfl) (fun t _ => hr 27 t rfl), (t1 p hp).2⟩
  · intro t ht h0
    rw [hk'] at ht
    rw [hF] at h0
    rw [hk', hR, hr 27 t rfl]
    exact t3 t ht h0
  · intro a ha
    rw [hk'] at ha
    rw [hi 55 a rfl]
    exact t4 a ha
theorem Abs.setI (h : Abs X g s) {a f : Nat} {v : Int32} (hk : gk s.1 a ≠ 0) (hf : vis f = true) : Abs X (gSetI g f a v) (sSetI s f a v) := by
  refine h.plain rfl rfl rfl rfl rfl rfl rfl (fun k b hkv => ?_) (fun k b _ => rfl) (fun b hb => (h.2.2.1 b hb).2) (fun b _ => rfl) (fun _ => rfl) (fun k b hb hb2 hkv => ?_)
  · show up2 (gi g) f a v k b = gi g k b
    unfold up2
    rw [if_neg (fun z => vis_ne hf hkv z.1.symm)]
  · obtain ⟨h1, h2⟩ := h.2.2.2.1 k b hb hb2 hkv
    refine ⟨?_, h2⟩
    show up2 (gi g) f a v k b = up2 (gi s.1) f a v k b
    unfold up2
    rw [h1]
theorem Abs.setR (h : Abs X g s) {a f : Nat} {v : Option Nat} (hk : gk s.1 a ≠ 0) (hf : vis f = true) : Abs X (gSetR g f a v) (sSetR s f a v) := by
  refine h.plain rfl rfl rfl rfl rfl rfl rfl (fun k b _ => rfl) (fun k b hkv => ?_) (fun b hb => (h.2.2.1 b hb).2) (fun b _ => rfl) (fun b => ?_) (fun k b hb hb2 hkv => ?_)
  · show up2 (gr g) f a v k b = gr g k b
    unfold up2
    rw [if_neg (fun z => vis_ne hf hkv z.1.symm)]
  · show up2 (gr s.1) f a v 27 b = gr s.1 27 b
    unfold up2
    rw [if_neg (fun z => vis_ne hf (show vis 27 = false from rfl) z.1.symm)]
  · obtain ⟨h1, h2⟩ := h.2.2.2.1 k b hb hb2 hkv
    refine ⟨h1, ?_⟩
    show up2 (gr g) f a v k b = up2 (gr s.1) f a v k b
    unfold up2
    rw [h2]
theorem Abs.setA (h : Abs X g s) {a j : Nat} {v : Int32} : Abs X (gSetA g a j v) (sSetA s a j v) := by
  refine h.plain rfl rfl rfl rfl rfl rfl rfl (fun k b _ => rfl) (fun k b _ => rfl) (fun b hb => ⟨?_, (h.2.2.1 b hb).2.2⟩) (fun b _ => rfl) (fun _ => rfl) (fun k b hb hb2 hkv => h.2.2.2.1 k b hb hb2 hkv)
  funext q
  show up2 (ga g) a j v b q = up2 (ga s.1) a j v b q
  unfold up2
  rw [(h.2.2.1 b hb).2.1]
theorem Abs.setB (h : Abs X g s) {a j : Nat} {v : Option Nat} (hk : gk s.1 a ≠ 0) : Abs X (gSetB g a j v) (sSetB s a j v) := by
  refine h.plain rfl rfl rfl rfl rfl rfl rfl (fun k b _ => rfl) (fun k b _ => rfl) (fun b hb => ⟨(h.2.2.1 b hb).2.1, ?_⟩) (fun b hb => ?_) (fun _ => rfl) (fun k b hb hb2 hkv => h.2.2.2.1 k b hb hb2 hkv)
  · funext q
    show up2 (gb g) a j v b q = up2 (gb s.1) a j v b q
    unfold up2
    rw [(h.2.2.1 b hb).2.2]
  · funext q
    show up2 (gb g) a j v b q = gb g b q
    unfold up2
    rw [if_neg (fun z => hk (by rw [← z.1]; exact hb))]
end ABS
