/-! the component's picture grows, its lines, lists and chains change -/
theorem up1_pos {α : Type} {f : Nat → α} {a : Nat} {v : α} : up1 f a v a = v := if_pos rfl
theorem up1_ne {α : Type} {f : Nat → α} {a b : Nat} {v : α} (h : b ≠ a) : up1 f a v b = f b := if_neg h
section ABS2
variable {X : gCx} {g g' : gG} {s s' : sS}
theorem Abs.top (h : Abs X g s) : gk g (gx g) = 0 ∧ gk s.1 (gx g) = 0 := by
  have h0 : gk g (gx g) = 0 := by
    by_cases z : gk g (gx g) = 0
    · exact z
    · exact absurd (h.1.2.1 _ z) (Nat.lt_irrefl _)
  refine ⟨h0, ?_⟩
  by_cases z : gk s.1 (gx g) = 0
  · exact z
  · have := h.2.1 _ z
    rw [h0] at this
    split at this <;> omega
theorem Abs.grow (h : Abs X g s) {q : Nat} (hq : gx g = q) (hx : gx g' = q + 1) (hx' : gx s'.1 = q + 1) (hk : ∀ a, a ≠ q → gk g' a = gk g a) (hk' : ∀ a, a ≠ q → gk s'.1 a = gk s.1 a)
    (hl : ∀ a, a ≠ q → gl g' a = gl g a ∧ ga g' a = ga g a ∧ gb g' a = gb g a) (hl' : ∀ a, a ≠ q → gl s'.1 a = gl s.1 a ∧ ga s'.1 a = ga s.1 a ∧ gb s'.1 a = gb s.1 a)
    (hi : ∀ f a, a ≠ q → gi g' f a = gi g f a ∧ gr g' f a = gr g f a) (hi' : ∀ f a, a ≠ q → gi s'.1 f a = gi s.1 f a ∧ gr s'.1 f a = gr s.1 f a)
    (hs : ∀ a, a ≠ q → sq s' a = sq s a ∧ sl s' a = sl s a ∧ sr s' a = sr s a)
    (e1 : gk s'.1 q ≠ 0 → gk g' q = if gk s'.1 q = 64 then 14 else gk s'.1 q) (e2 : 100 ≤ gk s'.1 q → gl g' q = gl s'.1 q ∧ ga g' q = ga s'.1 q ∧ gb g' q = gb s'.1 q)
    (e3 : gk s'.1 q ≠ 0 → gk s'.1 q < 100 → ∀ f, vis f = true → gi g' f q = gi s'.1 f q ∧ gr g' f q = gr s'.1 f q)
    (e4 : gk s'.1 q = 4 → LineAt g' q [] (sq s' q)) (e5 : gk s'.1 q ≠ 14) (e6 : gk s'.1 q = 3 → TransAt g' q [] ∧ sr s' q = []) (e7 : gk s'.1 q = 6 → gr g' 27 q = none) (e8 : gk s'.1 q = 64 → gi g' 55 q = 0) : Abs X g' s' := by
  obtain ⟨t1, t2⟩ := h.top
  rw [hq] at t1 t2
  obtain ⟨⟨a1, a2, a3, a4⟩, b, c, d, ⟨cs, l1, l2, l3⟩, ⟨ar, f1, f2⟩, ⟨p1, p2⟩, fr, fr2⟩ := h
  have nq : ∀ a, gk s.1 a ≠ 0 → a ≠ q := fun a h z => h (by rw [z]; exact t2)
  have ng : ∀ a, gk g a ≠ 0 → a ≠ q := fun a h z => h (by rw [z]; exact t1)
  have kz : ∀ a k, gk s'.1 a = k → a ≠ q → gk s.1 a = k := fun a k h z => by rw [← hk' a z]; exact h
  have arq : ∀ a, gk s.1 a = 14 → ar a ≠ q := fun a h => by
    obtain ⟨-, -, -, u | u⟩ := f1 a h
    · rw [u.2]; omega
    · exact ng _ (by rw [u.2.1]; omega)
  refine ⟨⟨by rw [hx, hx'], fun a ha => ?_, ?_, by omega⟩, fun a ha => ?_, fun a ha => ?_, fun f a ha ha2 hf => ?_, ⟨up1 cs q [], fun a ha => ?_, fun a z ha hz => ?_, fun a a' z ha ha' hz hz' => ?_⟩, ⟨ar, fun a ha => ?_, fun a a' ha ha' hz he => ?_⟩, ⟨fun p hp => ?_, fun p p' t hp hp' ht ht' => ?_⟩, fun t ht h0 => ?_, fun u hu => ?_⟩
  · by_cases z : a = q
    · rw [z, hx]; omega
    · rw [hk a z] at ha
      have := a2 a ha
      omega
  · rw [hk _ (by omega)]
    exact a3
  · by_cases z : a = q
    · subst z; exact e1 ha
    · rw [hk' a z] at ha ⊢
      rw [hk a z]
      exact b a ha
  · by_cases z : a = q
    · subst z; exact e2 ha
    · rw [hk' a z] at ha
      obtain ⟨x1, x2, x3⟩ := hl a z
      obtain ⟨y1, y2, y3⟩ := hl' a z
      rw [x1, x2, x3, y1, y2, y3]
      exact c a ha
  · by_cases z : a = q
    · subst z; exact e3 ha ha2 f hf
    · rw [hk' a z] at ha ha2
      rw [(hi f a z).1, (hi f a z).2, (hi' f a z).1, (hi' f a z).2]
      exact d f a ha ha2 hf
  · by_cases z : a = q
    · subst z; rw [up1_pos]; exact e4 ha
    · rw [up1_ne z, (hs a z).1]
      have hk4 := kz a 4 ha z
      exact (l1 a hk4).kept (hi 19 a z).2 (hi 20 a z).2 (hi 21 a z).1 (fun u hu => ⟨(hi 22 u (ng u (by rw [(l2 a u hk4 hu).2]; omega))).2, (hi 23 u (ng u (by rw [(l2 a u hk4 hu).2]; omega))).2⟩)
  · by_cases y : a = q
    · rw [y, up1_pos] at hz; simp at hz
    · rw [up1_ne y] at hz
      have hk4 := kz a 4 ha y
      obtain ⟨u1, u2⟩ := l2 a z hk4 hz
      have nz := ng z (by rw [u2]; omega)
      rw [hk' z nz, hk z nz]
      exact ⟨u1, u2⟩
  · by_cases y : a = q
    · rw [y, up1_pos] at hz; simp at hz
    · by_cases y' : a' = q
      · rw [y', up1_pos] at hz'; simp at hz'
      · rw [up1_ne y] at hz
        rw [up1_ne y'] at hz'
        exact l3 a a' z (kz a 4 ha y) (kz a' 4 ha' y') hz hz'
  · have z : a ≠ q := fun z => e5 (by rw [← z]; exact ha)
    have h14 := kz a 14 ha z
    obtain ⟨u1, u2, u3, u4⟩ := f1 a h14
    refine ⟨(hi 54 a z).2.trans u1, by rw [(hs a z).2.1]; exact (hi 55 a z).1.trans u2, by rw [(hs a z).2.1]; exact u3, ?_⟩
    rw [(hs a z).2.1]
    have az := arq a h14
    rcases u4 with u4 | ⟨v0, v1, v2, v3, v4⟩
    · exact Or.inl u4
    · refine Or.inr ⟨v0, by rw [hk _ az]; exact v1, by rw [hk' _ az]; exact v2, by rw [(hl _ az).1]; exact v3, fun j v hj => ?_⟩
      rw [(hl _ az).2.2]
      exact v4 j v hj
  · have z : a ≠ q := fun z => e5 (by rw [← z]; exact ha)
    have z' : a' ≠ q := fun z => e5 (by rw [← z]; exact ha')
    rw [hk _ (arq a (kz a 14 ha z))] at hz
    exact f2 a a' (kz a 14 ha z) (kz a' 14 ha' z') hz he
  · by_cases z : p = q
    · subst z
      obtain ⟨u1, u2⟩ := e6 hp
      rw [u2]
      exact ⟨u1, fun t ht => absurd ht (by simp)⟩
    · rw [(hs p z).2.2]
      have hp3 := kz p 3 hp z
      obtain ⟨u1, u2⟩ := p1 p hp3
      refine ⟨u1.kept (hi 12 p z).2 (hi 13 p z).1 (fun t ht => (hi 27 t (nq t (by rw [u2 t ht]; omega))).2), fun t ht => ?_⟩
      rw [hk' t (nq t (by rw [u2 t ht]; omega))]
      exact u2 t ht
  · by_cases z : p = q
    · subst z; rw [(e6 hp).2] at ht; simp at ht
    · by_cases z' : p' = q
      · subst z'; rw [(e6 hp').2] at ht'; simp at ht'
      · rw [(hs p z).2.2] at ht
        rw [(hs p' z').2.2] at ht'
        exact p2 p p' t (kz p 3 hp z) (kz p' 3 hp' z') ht ht'
  · by_cases z : t = q
    · subst z
      refine ⟨e7 ht, fun p hp hm => ?_⟩
      by_cases y : p = t
      · subst y; rw [ht] at hp; omega
      · rw [(hs p y).2.2] at hm
        have := (p1 p (kz p 3 hp y)).2 t hm
        omega
    · have ht6 := kz t 6 ht z
      rw [(hi' 27 t z).2] at h0
      obtain ⟨u1, u2⟩ := fr t ht6 h0
      refine ⟨(hi 27 t z).2.trans u1, fun p hp hm => ?_⟩
      by_cases y : p = q
      · subst y; rw [(e6 hp).2] at hm; simp at hm
      · rw [(hs p y).2.2] at hm
        exact u2 p (kz p 3 hp y) hm
  · by_cases z : u = q
    · subst z; exact e8 hu
    · rw [(hi 55 u z).1]
      exact fr2 u (kz u 64 hu z)
theorem Abs.new (h : Abs X g s) {ci q : Nat} (hq : gx s.1 = q) (hc : ci ≠ 4) (hc2 : ci < 13) : gx g = q ∧ Abs X (gNew g ci) (sNew s ci) := by
  have hg : gx g = q := h.1.1.trans hq
  refine ⟨hg, ?_⟩
  have n1 : ∀ a, a ≠ q → a ≠ gx g := fun a z => by rw [hg]; exact z
  have n2 : ∀ a, a ≠ q → a ≠ gx s.1 := fun a z => by rw [hq]; exact z
  have kq : gk (sNew s ci).1 q = ci + 1 := by simp [sNew, gNew, up1, gk, gx] at hq ⊢; intro z; exact absurd hq.symm z
  have kg : gk (gNew g ci) q = ci + 1 := by simp [gNew, up1, gk, gx] at hg ⊢; intro z; exact absurd hg.symm z
  refine h.grow hg (by simp [gNew, gx] at hg ⊢; exact hg) (by simp [sNew, gNew, gx] at hq ⊢; exact hq) (fun a z => ?_) (fun a z => ?_) (fun a z => ⟨rfl, rfl, rfl⟩) (fun a z => ⟨rfl, rfl, rfl⟩) (fun f a z => ?_) (fun f a z => ?_) (fun a z => ?_) (fun _ => ?_) (fun z => ?_) (fun _ _ f hf => ?_) (fun z => ?_) (fun z => ?_) (fun z => ?_) (fun z => ?_) (fun z => ?_)
  · exact if_neg (n1 a z)
  · exact if_neg (n2 a z)
  · exact ⟨if_neg (n1 a z), if_neg (n1 a z)⟩
  · exact ⟨if_neg (n2 a z), if_neg (n2 a z)⟩
  · exact ⟨if_neg (n2 a z), rfl, if_neg (n2 a z)⟩
  · rw [kg, kq, if_neg (by omega)]
  · rw [kq] at z; omega
  · exact ⟨(if_pos hg.symm).trans (if_pos hq.symm).symm, (if_pos hg.symm).trans (if_pos hq.symm).symm⟩
  · have : sq (sNew s ci) q = [] := if_pos hq.symm
    rw [this]
    exact ⟨if_pos hg.symm, if_pos hg.symm, if_pos hg.symm, rfl, List.nodup_nil, fun i c hc => by simp at hc⟩
  · rw [kq] at z; omega
  · exact ⟨⟨if_pos hg.symm, if_pos hg.symm, by decide, List.nodup_nil, fun i c hc => by simp at hc⟩, if_pos hq.symm⟩
  · exact if_pos hg.symm
  · exact if_pos hg.symm
theorem Abs.newA (h : Abs X g s) {t n q : Nat} (hq : gx s.1 = q) : gx g = q ∧ Abs X (gNewA g t n) (sNewA s t n) := by
  have hg : gx g = q := h.1.1.trans hq
  refine ⟨hg, ?_⟩
  have n1 : ∀ a, a ≠ q → a ≠ gx g := fun a z => by rw [hg]; exact z
  have n2 : ∀ a, a ≠ q → a ≠ gx s.1 := fun a z => by rw [hq]; exact z
  have kq : gk (sNewA s t n).1 q = 100 + t := if_pos hq.symm
  have kg : gk (gNewA g t n) q = 100 + t := if_pos hg.symm
  refine h.grow hg (by simp [gNewA, gx] at hg ⊢; exact hg) (by simp [sNewA, gNewA, gx] at hq ⊢; exact hq) (fun a z => ?_) (fun a z => ?_) (fun a z => ?_) (fun a z => ?_) (fun f a z => ⟨rfl, rfl⟩) (fun f a z => ⟨rfl, rfl⟩) (fun a z => ⟨rfl, rfl, rfl⟩) (fun _ => ?_) (fun z => ?_) (fun _ z => ?_) (fun z => ?_) (fun z => ?_) (fun z => ?_) (fun z => ?_) (fun z => ?_)
  · exact if_neg (n1 a z)
  · exact if_neg (n2 a z)
  · exact ⟨if_neg (n1 a z), if_neg (n1 a z), if_neg (n1 a z)⟩
  · exact ⟨if_neg (n2 a z), if_neg (n2 a z), if_neg (n2 a z)⟩
  · rw [kg, kq, if_neg (by omega)]
  · exact ⟨(if_pos hg.symm).trans (if_pos hq.symm).symm, (if_pos hg.symm).trans (if_pos hq.symm).symm, (if_pos hg.symm).trans (if_pos hq.symm).symm⟩
  · rw [kq] at z; omega
  · rw [kq] at z; omega
  · rw [kq] at z; omega
  · rw [kq] at z; omega
  · rw [kq] at z; omega
  · rw [kq] at z; omega
theorem Abs.newL (h : Abs X g s) {q : Nat} (hq : gx s.1 = q) : gx g = q ∧ Abs X (gNew g 13) (sNewL s) := by
  have hg : gx g = q := h.1.1.trans hq
  refine ⟨hg, ?_⟩
  have n1 : ∀ a, a ≠ q → a ≠ gx g := fun a z => by rw [hg]; exact z
  have n2 : ∀ a, a ≠ q → a ≠ gx s.1 := fun a z => by rw [hq]; exact z
  have kq : gk (sNewL s).1 q = 64 := if_pos hq.symm
  have kg : gk (gNew g 13) q = 14 := if_pos hg.symm
  refine h.grow hg (by simp [gNew, gx] at hg ⊢; exact hg) (by simp [sNewL, gNew, gx] at hq ⊢; exact hq) (fun a z => ?_) (fun a z => ?_) (fun a z => ⟨rfl, rfl, rfl⟩) (fun a z => ⟨rfl, rfl, rfl⟩) (fun f a z => ?_) (fun f a z => ?_) (fun a z => ⟨rfl, rfl, rfl⟩) (fun _ => ?_) (fun z => ?_) (fun _ _ f hf => ?_) (fun z => ?_) (fun z => ?_) (fun z => ?_) (fun z => ?_) (fun z => ?_)
  · exact if_neg (n1 a z)
  · exact if_neg (n2 a z)
  · exact ⟨if_neg (n1 a z), if_neg (n1 a z)⟩
  · exact ⟨if_neg (n2 a z), if_neg (n2 a z)⟩
  · rw [kg, kq, if_pos rfl]
  · rw [kq] at z; omega
  · exact ⟨(if_pos hg.symm).trans (if_pos hq.symm).symm, (if_pos hg.symm).trans (if_pos hq.symm).symm⟩
  · rw [kq] at z; omega
  · rw [kq] at z; omega
  · rw [kq] at z; omega
  · rw [kq] at z; omega
  · exact if_pos hg.symm
/-- a cell that the picture does not show -/
theorem Abs.bump (h : Abs X g s) {q : Nat} (hq : gx g = q) (hx : gx g' = q + 1) (hk : ∀ a, a ≠ q → gk g' a = gk g a) (hl : ∀ a, a ≠ q → gl g' a = gl g a ∧ ga g' a = ga g a ∧ gb g' a = gb g a) (hi : ∀ f a, a ≠ q → gi g' f a = gi g f a ∧ gr g' f a = gr g f a) : Abs X g' (sBump s) := by
  have hz : gk (sBump s).1 q = 0 := by
    have := h.top.2
    rw [hq] at this
    exact this
  refine h.grow hq hx (by show gx s.1 + 1 = _; rw [← h.1.1, hq]) hk (fun _ _ => rfl) hl (fun _ _ => ⟨rfl, rfl, rfl⟩) hi (fun _ _ _ => ⟨rfl, rfl⟩) (fun _ _ => ⟨rfl, rfl, rfl⟩) (fun z => absurd hz z) (fun z => ?_) (fun z => absurd hz z) (fun z => ?_) (fun z => ?_) (fun z => ?_) (fun z => ?_) (fun z => ?_)
  all_goals (rw [hz] at z; omega)
/-- what a change of the line a leaves alone -/
def LSame (a : Nat) (us : List Nat) (g g' : gG) : Prop :=
  gx g' = gx g ∧ gk g' = gk g ∧ gl g' = gl g ∧ ga g' = ga g ∧ gb g' = gb g ∧ (∀ f b, ¬(f = 21 ∧ b = a) → gi g' f b = gi g f b) ∧ ∀ f b, ¬((f = 19 ∨ f = 20) ∧ b = a) → ¬((f = 22 ∨ f = 23) ∧ b ∈ us) → gr g' f b = gr g f b
theorem Abs.line (h : Abs X g s) {cs : Nat → List Nat} (hL : Lines g s cs) {a : Nat} {us cs' l' : List Nat} (ha : gk s.1 a = 4) (e : LSame a us g g') (hA : LineAt g' a cs' l') (hus : ∀ b c, gk s.1 b = 4 → c ∈ us → c ∈ cs b → b = a) (hc : ∀ c ∈ cs', gk s.1 c = 0 ∧ gk g c = 5 ∧ ∀ b, gk s.1 b = 4 → c ∈ cs b → b = a) : Abs X g' (sSetQ s a l') := by
  obtain ⟨⟨a1, a2, a3, a4⟩, b, c, d, -, ⟨ar, f1, f2⟩, ⟨p1, p2⟩, fr, fr2⟩ := h
  obtain ⟨l1, l2, l3⟩ := hL
  obtain ⟨x1, x2, x3, x4, x5, x6, x7⟩ := e
  refine ⟨⟨by rw [x1]; exact a1, by rw [x1, x2]; exact a2, by rw [x2]; exact a3, by rw [x1]; exact a4⟩, by rw [x2]; exact b, by rw [x3, x4, x5]; exact c, fun f u hu hu2 hf => ?_, ⟨up1 cs a cs', fun u hu => ?_, fun u z hu hz => ?_, fun u u' z hu hu' hz hz' => ?_⟩, ⟨ar, fun u hu => ?_, by rw [x2]; exact f2⟩, ⟨fun p hp => ?_, p2⟩, fun t ht h0 => ?_, fun u hu => ?_⟩
  · rw [x6 f u (fun z => by rw [z.1] at hf; cases hf), x7 f u (fun z => by rcases z.1 with z | z <;> (rw [z] at hf; cases hf)) (fun z => by rcases z.1 with z | z <;> (rw [z] at hf; cases hf))]
    exact d f u hu hu2 hf
  · by_cases z : u = a
    · subst z
      rw [up1_pos, show sq (sSetQ s u l') u = l' from if_pos rfl]
      exact hA
    · rw [up1_ne z, show sq (sSetQ s a l') u = sq s u from if_neg z]
      exact (l1 u hu).kept (x7 19 u (fun y => z y.2) (by omega)) (x7 20 u (fun y => z y.2) (by omega)) (x6 21 u (fun y => z y.2)) (fun w hw => ⟨x7 22 w (by omega) (fun y => z (hus u w hu y.2 hw)), x7 23 w (by omega) (fun y => z (hus u w hu y.2 hw))⟩)
  · by_cases y : u = a
    · subst y
      rw [up1_pos] at hz
      rw [x2]
      exact ⟨(hc z hz).1, (hc z hz).2.1⟩
    · rw [up1_ne y] at hz
      rw [x2]
      exact l2 u z hu hz
  · by_cases y : u = a
    · by_cases y' : u' = a
      · rw [y, y']
      · subst y
        rw [up1_pos] at hz
        rw [up1_ne y'] at hz'
        exact ((hc z hz).2.2 u' hu' hz').symm
    · by_cases y' : u' = a
      · subst y'
        rw [up1_ne y] at hz
        rw [up1_pos] at hz'
        exact (hc z hz').2.2 u hu hz
      · rw [up1_ne y] at hz
        rw [up1_ne y'] at hz'
        exact l3 u u' z hu hu' hz hz'
  · obtain ⟨u1, u2, u3, u4⟩ := f1 u hu
    refine ⟨(x7 54 u (by omega) (by omega)).trans u1, (x6 55 u (by omega)).trans u2, u3, ?_⟩
    rw [x2, x3, x5]
    exact u4
  · exact ⟨(p1 p hp).1.kept (x7 12 p (by omega) (by omega)) (x6 13 p (by omega)) (fun t _ => x7 27 t (by omega) (by omega)), (p1 p hp).2⟩
  · rw [x7 27 t (by omega) (by omega)]
    exact fr t ht h0
  · rw [x6 55 u (by omega)]
    exact fr2 u hu
/-- a translation is put in -/
def sPutT (s : sS) (p t : Nat) (ts : List Nat) : sS := sSetT (sSetR s 27 t (some 0)) p ts
theorem Abs.chain (h : Abs X g s) {p : Nat} {us ts' : List Nat} (hp : gk s.1 p = 3) (e : TSame p us g g') (hA : TransAt g' p ts') (ht : ∀ t ∈ ts', gk s.1 t = 6) (hn : ∀ q t, gk s.1 q = 3 → t ∈ ts' → t ∈ sr s q → q = p) (hu : ∀ q t, gk s.1 q = 3 → t ∈ us → t ∈ sr s q → q = p)
    (hs : s'.1.1 = s.1.1) (hs1 : gk s'.1 = gk s.1) (hs2 : gl s'.1 = gl s.1) (hs3 : gi s'.1 = gi s.1) (hs4 : ∀ f a, f ≠ 27 → gr s'.1 f a = gr s.1 f a) (hs5 : ga s'.1 = ga s.1 ∧ gb s'.1 = gb s.1) (hs6 : s'.2 = (sq s, sl s, up1 (sr s) p ts'))
    (hf : ∀ t, gk s.1 t = 6 → gr s'.1 27 t = none → gr s.1 27 t = none ∧ t ∉ ts' ∧ t ∉ us) : Abs X g' s' := by
  obtain ⟨⟨a1, a2, a3, a4⟩, b, c, d, ⟨cs, l1, l2, l3⟩, ⟨ar, f1, f2⟩, ⟨p1, p2⟩, fr, fr2⟩ := h
  obtain ⟨x1, x2, x3, x4, x5, x6, x7⟩ := e
  have hq : sq s' = sq s := by show s'.2.1 = _; rw [hs6]
  have hL : sl s' = sl s := by show s'.2.2.1 = _; rw [hs6]
  have hR : sr s' = up1 (sr s) p ts' := by show s'.2.2.2 = _; rw [hs6]
  have rp : sr s' p = ts' := by rw [hR]; exact if_pos rfl
  have rn : ∀ q, q ≠ p → sr s' q = sr s q := fun q z => by rw [hR]; exact if_neg z
  refine ⟨⟨by rw [x1]; exact a1.trans hs.symm, by rw [x1, x2]; exact a2, by rw [x2]; exact a3, by rw [x1]; exact a4⟩, by rw [x2, hs1]; exact b, by rw [x3, x4, x5, hs1, hs2, hs5.1, hs5.2]; exact c, fun f u hu hu2 hf => ?_, ⟨cs, fun u hu => ?_, by rw [x2, hs1]; exact l2, by rw [hs1]; exact l3⟩, ⟨ar, fun u hu => ?_, by rw [x2, hs1]; exact f2⟩, ⟨fun q hq => ?_, fun q q' t hq hq' ht ht' => ?_⟩, fun t ht6 h0 => ?_, fun u hu => ?_⟩
  · rw [hs1] at hu hu2
    rw [x6 f u (fun z => by rw [z.1] at hf; cases hf), x7 f u (fun z => by rw [z.1] at hf; cases hf) (fun z => by rw [z.1] at hf; cases hf), hs3, hs4 f u (fun z => by rw [z] at hf; cases hf)]
    exact d f u hu hu2 hf
  · rw [hs1] at hu
    rw [hq]
    exact (l1 u hu).kept (x7 19 u (by omega) (by omega)) (x7 20 u (by omega) (by omega)) (x6 21 u (by omega)) (fun w hw => ⟨x7 22 w (by omega) (by omega), x7 23 w (by omega) (by omega)⟩)
  · rw [hs1] at hu
    obtain ⟨u1, u2, u3, u4⟩ := f1 u hu
    refine ⟨(x7 54 u (by omega) (by omega)).trans u1, by rw [hL]; exact (x6 55 u (by omega)).trans u2, by rw [hL]; exact u3, ?_⟩
    rw [x2, x3, x5, hs1, hL]
    exact u4
  · rw [hs1] at hq
    by_cases z : q = p
    · subst z
      rw [rp]
      exact ⟨hA, fun t h => by rw [hs1]; exact ht t h⟩
    · rw [rn q z]
      obtain ⟨u1, u2⟩ := p1 q hq
      exact ⟨u1.kept (x7 12 q (fun y => z y.2) (by omega)) (x6 13 q (fun y => z y.2)) (fun t h => x7 27 t (by omega) (fun y => z (hu q t hq y.2 h))), fun t h => by rw [hs1]; exact u2 t h⟩
  · rw [hs1] at hq hq'
    by_cases z : q = p
    · by_cases z' : q' = p
      · rw [z, z']
      · subst z
        rw [rp] at ht
        rw [rn q' z'] at ht'
        exact (hn q' t hq' ht ht').symm
    · by_cases z' : q' = p
      · subst z'
        rw [rp] at ht'
        rw [rn q z] at ht
        exact hn q t hq ht' ht
      · rw [rn q z] at ht
        rw [rn q' z'] at ht'
        exact p2 q q' t hq hq' ht ht'
  · rw [hs1] at ht6
    obtain ⟨y1, y2, y3⟩ := hf t ht6 h0
    obtain ⟨z1, z2⟩ := fr t ht6 y1
    refine ⟨(x7 27 t (by omega) (fun y => y3 y.2)).trans z1, fun q hq hm => ?_⟩
    rw [hs1] at hq
    by_cases z : q = p
    · subst z; rw [rp] at hm; exact y2 hm
    · rw [rn q z] at hm; exact z2 q hq hm
  · rw [hs1] at hu
    rw [x6 55 u (by omega)]
    exact fr2 u hu
/-- an array list changes -/
theorem Abs.list (h : Abs X g s) {ar : Nat → Nat} (hL : Lists X g s ar) {a b' : Nat} {l' : List Nat} (ha : gk s.1 a = 14 ∨ gk s.1 a = 64) (hx : gx g' = gx g) (hk : gk g' = gk g) (hl : gl g' = gl g) (hA : ga g' = ga g) (hB : ∀ b, b ≠ b' → gb g' b = gb g b) (hi : ∀ f c, ¬((f = 55 ∨ f = 56) ∧ c = a) → gi g' f c = gi g f c) (hr : ∀ f c, ¬(f = 54 ∧ c = a) → gr g' f c = gr g f c)
    (hb : gk s.1 b' = 0) (hbo : ∀ c, gk s.1 c = 14 → c ≠ a → gk g b' = 104 → ar c ≠ b') (hbz : b' = cxZ X → gb g' b' = gb g b')
    (e : gr g' 54 a = some b' ∧ gi g' 55 a = nI l'.length ∧ l'.length ≤ 10 ∧ ((l' = [] ∧ b' = cxZ X) ∨ (l' ≠ [] ∧ gk g b' = 104 ∧ gl g b' = 10 ∧ ∀ j v, l'[j]? = some v → gb g' b' j = some v)))
    (hs : s' = ((gx s.1, up1 (gk s.1) a 14, s.1.2.2), sq s, up1 (sl s) a l', sr s)) : Abs X g' s' := by
  obtain ⟨⟨a1, a2, a3, a4⟩, b, c, d, ⟨cs, l1, l2, l3⟩, -, ⟨p1, p2⟩, fr, fr2⟩ := h
  obtain ⟨f1, f2⟩ := hL
  subst hs
  have kn : ∀ u, u ≠ a → up1 (gk s.1) a 14 u = gk s.1 u := fun u z => if_neg z
  have ka : up1 (gk s.1) a 14 a = 14 := if_pos rfl
  have ka' : gk g a = 14 := by
    have := b a (by omega)
    rcases ha with ha | ha
    · rw [ha] at this; simpa using this
    · rw [ha] at this; simpa using this
  have sp : sl (((gx s.1, up1 (gk s.1) a 14, s.1.2.2), sq s, up1 (sl s) a l', sr s) : sS) a = l' := if_pos rfl
  have sn : ∀ u, u ≠ a → sl (((gx s.1, up1 (gk s.1) a 14, s.1.2.2), sq s, up1 (sl s) a l', sr s) : sS) u = sl s u := fun u z => if_neg z
  have kk : ∀ u k, up1 (gk s.1) a 14 u = k → k ≠ 14 → gk s.1 u = k ∧ u ≠ a := fun u k h1 h2 => by
    by_cases z : u = a
    · subst z; rw [ka] at h1; omega
    · rw [kn u z] at h1; exact ⟨h1, z⟩
  have kb : ∀ u k, gk s.1 u = k → k ≠ 14 → k ≠ 64 → up1 (gk s.1) a 14 u = k := fun u k h1 h2 h3 => by
    rw [kn u (fun z => by rw [z] at h1; omega)]; exact h1
  have ng : ∀ u, u ≠ b' → gb g' u = gb g u := hB
  refine ⟨⟨by rw [hx]; exact a1, by rw [hx, hk]; exact a2, by rw [hk]; exact a3, by rw [hx]; exact a4⟩, fun u hu => ?_, fun u hu => ?_, fun f u hu hu2 hf => ?_, ⟨cs, fun u hu => ?_, fun u z hu hz => ?_, fun u u' z hu hu' => l3 u u' z (kk u 4 hu (by omega)).1 (kk u' 4 hu' (by omega)).1⟩, ⟨up1 ar a b', fun u hu => ?_, fun u u' hu hu' hz he => ?_⟩, ⟨fun p hp => ?_, fun p p' t hp hp' => p2 p p' t (kk p 3 hp (by omega)).1 (kk p' 3 hp' (by omega)).1⟩, fun t ht h0 => ?_, fun u hu => ?_⟩
  · show gk g' u = if up1 (gk s.1) a 14 u = 64 then 14 else up1 (gk s.1) a 14 u
    rw [hk]
    by_cases z : u = a
    · subst z; rw [ka, if_neg (by omega)]; exact ka'
    · rw [kn u z]
      exact b u (by rw [← kn u z]; exact hu)
  · have hu' : 100 ≤ up1 (gk s.1) a 14 u := hu
    obtain ⟨y1, y2⟩ := kk u _ rfl (by omega)
    rw [hl, hA, ng u (fun z => by rw [z, hb] at y1; rw [z] at hu'; omega)]
    exact c u (by omega)
  · have hu' : up1 (gk s.1) a 14 u ≠ 0 := hu
    have hu2' : up1 (gk s.1) a 14 u < 100 := hu2
    rw [hi f u (fun z => by rcases z.1 with z | z <;> (rw [z] at hf; cases hf)), hr f u (fun z => by rw [z.1] at hf; cases hf)]
    by_cases z : u = a
    · subst z; exact d f u (by omega) (by omega) hf
    · rw [kn u z] at hu' hu2'; exact d f u hu' hu2' hf
  · obtain ⟨y1, y2⟩ := kk u 4 hu (by omega)
    exact (l1 u y1).kept (hr 19 u (by omega)) (hr 20 u (by omega)) (hi 21 u (by omega)) (fun w hw => ⟨hr 22 w (by omega), hr 23 w (by omega)⟩)
  · obtain ⟨y1, y2⟩ := l2 u z (kk u 4 hu (by omega)).1 hz
    exact ⟨kb z 0 y1 (by omega) (by omega), by rw [hk]; exact y2⟩
  · by_cases z : u = a
    · subst z
      obtain ⟨q1, q2, q3, q4⟩ := e
      rw [up1_pos]
      refine ⟨q1, by rw [sp]; exact q2, by rw [sp]; exact q3, ?_⟩
      rw [sp]
      rcases q4 with q4 | ⟨q0, q4, q5, q6⟩
      · exact Or.inl q4
      · exact Or.inr ⟨q0, by rw [hk]; exact q4, kb b' 0 hb (by omega) (by omega), by rw [hl]; exact q5, q6⟩
    · rw [up1_ne z]
      have hu' : up1 (gk s.1) a 14 u = 14 := hu
      rw [kn u z] at hu'
      obtain ⟨u1, u2, u3, u4⟩ := f1 u hu'
      refine ⟨(hr 54 u (fun y => z y.2)).trans u1, by rw [sn u z]; exact (hi 55 u (fun y => z y.2)).trans u2, by rw [sn u z]; exact u3, ?_⟩
      rw [sn u z]
      rcases u4 with u4 | ⟨v0, v1, v2, v3, v4⟩
      · exact Or.inl u4
      · refine Or.inr ⟨v0, by rw [hk]; exact v1, kb _ 0 v2 (by omega) (by omega), by rw [hl]; exact v3, fun j v hj => ?_⟩
        rw [ng _ (fun y => hbo u hu' z (by rw [← y]; exact v1) y)]
        exact v4 j v hj
  · rw [hk] at hz
    by_cases z : u = a
    · by_cases z' : u' = a
      · rw [z, z']
      · rw [z, up1_pos] at hz he
        rw [up1_ne z'] at he
        have hu2 : up1 (gk s.1) a 14 u' = 14 := hu'
        rw [kn u' z'] at hu2
        exact absurd he.symm (hbo u' hu2 z' hz)
    · have hu2 : up1 (gk s.1) a 14 u = 14 := hu
      rw [kn u z] at hu2
      rw [up1_ne z] at hz he
      by_cases z' : u' = a
      · rw [z', up1_pos] at he
        exact absurd he (hbo u hu2 z (by rw [← he]; exact hz))
      · rw [up1_ne z'] at he
        have hu3 : up1 (gk s.1) a 14 u' = 14 := hu'
        rw [kn u' z'] at hu3
        exact f2 u u' hu2 hu3 hz he
  · obtain ⟨y1, y2⟩ := kk p 3 hp (by omega)
    obtain ⟨q1, q2⟩ := p1 p y1
    exact ⟨q1.kept (hr 12 p (by omega)) (hi 13 p (by omega)) (fun t _ => hr 27 t (by omega)), fun t ht => kb t 6 (q2 t ht) (by omega) (by omega)⟩
  · obtain ⟨y1, y2⟩ := kk t 6 ht (by omega)
    obtain ⟨q1, q2⟩ := fr t y1 h0
    exact ⟨(hr 27 t (by omega)).trans q1, fun p hp => q2 p (kk p 3 hp (by omega)).1⟩
  · obtain ⟨y1, y2⟩ := kk u 64 hu (by omega)
    rw [hi 55 u (fun z => y2 z.2)]
    exact fr2 u y1
end ABS2
