/-! the heap by fields: kinds, int fields, reference fields, arrays; by address -/
abbrev gG : Type := Nat × (Nat → Nat) × (Nat → Nat) × (Nat → Nat → Int32) × (Nat → Nat → Option Nat) × (Nat → Nat → Int32) × (Nat → Nat → Option Nat)
/-- how many cells there are -/
abbrev gx (g : gG) : Nat := g.1
/-- what stands at an address: 0 nothing of ours, c + 1 an object of class c, 100 + t an array of type t -/
abbrev gk (g : gG) : Nat → Nat := g.2.1
abbrev gl (g : gG) : Nat → Nat := g.2.2.1
/-- fields: number of the field, address -/
abbrev gi (g : gG) : Nat → Nat → Int32 := g.2.2.2.1
abbrev gr (g : gG) : Nat → Nat → Option Nat := g.2.2.2.2.1
/-- elements: address, index -/
abbrev ga (g : gG) : Nat → Nat → Int32 := g.2.2.2.2.2.1
abbrev gb (g : gG) : Nat → Nat → Option Nat := g.2.2.2.2.2.2
def up2 {α : Type} (f : Nat → Nat → α) (a b : Nat) (v : α) : Nat → Nat → α := fun a' b' => if a' = a ∧ b' = b then v else f a' b'
def up1 {α : Type} (f : Nat → α) (a : Nat) (v : α) : Nat → α := fun a' => if a' = a then v else f a'
def gSetI (g : gG) (f a : Nat) (v : Int32) : gG := (gx g, gk g, gl g, up2 (gi g) f a v, gr g, ga g, gb g)
def gSetR (g : gG) (f a : Nat) (v : Option Nat) : gG := (gx g, gk g, gl g, gi g, up2 (gr g) f a v, ga g, gb g)
def gSetA (g : gG) (a j : Nat) (v : Int32) : gG := (gx g, gk g, gl g, gi g, gr g, up2 (ga g) a j v, gb g)
def gSetB (g : gG) (a j : Nat) (v : Option Nat) : gG := (gx g, gk g, gl g, gi g, gr g, ga g, up2 (gb g) a j v)
/-- a new object of class c -/
def gNew (g : gG) (c : Nat) : gG := (gx g + 1, up1 (gk g) (gx g) (c + 1), gl g, fun f a => if a = gx g then 0 else gi g f a, fun f a => if a = gx g then none else gr g f a, ga g, gb g)
/-- a new array of type t -/
def gNewA (g : gG) (t n : Nat) : gG := (gx g + 1, up1 (gk g) (gx g) (100 + t), up1 (gl g) (gx g) n, gi g, gr g, up1 (ga g) (gx g) (fun _ => 0), up1 (gb g) (gx g) (fun _ => none))
def gIsRef (f : Nat) : Bool := gRefs.contains f
def gFn (ci k : Nat) : Nat := (gFs ci).getD k 0
def gV (g : gG) (ci a k : Nat) : Value := if gIsRef (gFn ci k) = true then va_rf (gr g (gFn ci k) a) else .int (gi g (gFn ci k) a)
def gW (g : gG) (t a j : Nat) : Value := if t < 2 then .int (ga g a j) else va_rf (gb g a j)
def HoldG (X : gCx) (g : gG) (H : Heap) : Prop :=
  H.size = gx g ∧ (∀ a, gk g a ≠ 0 → cxA X a ∧ a < gx g) ∧ (∀ (a ci : Nat) (q : vw_C), classes[ci]? = some q → gk g a = ci + 1 → t_OB a ((cxD X).1 ci) q.2.2 ((cxD X).2 ci) H (gV g ci a)) ∧
  ∀ a t : Nat, t < 5 → gk g a = 100 + t → H[a]? = some (arrV (cxB X t) (gl g a) (gW g t a)) ∧ gl g a < 1000
/-- a picture s of the heap, by a relation -/
def HoldP {τ : Type} (X : gCx) (Ab : gG → τ → Prop) (s : τ) (H : Heap) : Prop := ∃ g, HoldG X g H ∧ Ab g s
/-- of the tables: the fields' numbers of a class are apart, and its slots have the types that the fields have -/
theorem gFn_inj : ∀ ci, ci < 15 → ∀ a, a < (gFs ci).length → ∀ b, b < (gFs ci).length → gFn ci a = gFn ci b → a = b := by decide +kernel
theorem gFs_len : ∀ ci, ci < 15 → ∀ q : vw_C, classes[ci]? = some q → (gFs ci).length = q.2.2 := by
  intro ci h q hq
  match ci, h with
  | 0, _ => cases hq; rfl
  | 1, _ => cases hq; rfl
  | 2, _ => cases hq; rfl
  | 3, _ => cases hq; rfl
  | 4, _ => cases hq; rfl
  | 5, _ => cases hq; rfl
  | 6, _ => cases hq; rfl
  | 7, _ => cases hq; rfl
  | 8, _ => cases hq; rfl
  | 9, _ => cases hq; rfl
  | 10, _ => cases hq; rfl
  | 11, _ => cases hq; rfl
  | 12, _ => cases hq; rfl
  | 13, _ => cases hq; rfl
  | 14, _ => cases hq; rfl
theorem gCi_lt {ci : Nat} {q : vw_C} (h : classes[ci]? = some q) : ci < 15 := (List.getElem?_eq_some_iff.mp h).1
/-- what a slot of a reference type, and of an int type, starts with -/
theorem gDef : ∀ ci, ci < 15 → ∀ k, k < (gFs ci).length → (if gIsRef (gFn ci k) = true then defaultValue (gTy ci k) = .null else defaultValue (gTy ci k) = .int 0) := by decide +kernel
section GHOST
variable {X : gCx} {g : gG} {H H1 : Heap}
theorem HoldG.obj (h : HoldG X g H) {ci : Nat} {C : String} {T : u_T} {N a : Nat} (hC : gCl ci C T N) (hk : gk g a = ci + 1) : t_OB a ((cxD X).1 ci) N ((cxD X).2 ci) H (gV g ci a) := h.2.2.1 a ci _ hC.1 hk
theorem HoldG.setI (h : HoldG X g H) {ci : Nat} {C : String} {T : u_T} {N a k f : Nat} {v : Int32} (hC : gCl ci C T N) (hk : gk g a = ci + 1) (hkN : k < N) (hf : gFn ci k = f) (hr : gIsRef f = false) (e : t_OB a ((cxD X).1 ci) N ((cxD X).2 ci) H1 (updV (gV g ci a) k (.int v))) (z : H1.size = H.size) (oq : ∀ q : Nat, q ≠ a → H1[q]? = H[q]?) : HoldG X (gSetI g f a v) H1 := by
  obtain ⟨h1, h2, h3, h4⟩ := h
  have hlt := gCi_lt hC.1
  refine ⟨z.trans h1, h2, fun b cj q hq hb => ?_, fun b t ht hb => ?_⟩
  · by_cases hba : b = a
    · subst hba
      have hcj : cj = ci := by
        have : cj + 1 = ci + 1 := hb.symm.trans hk
        omega
      subst hcj
      cases hq.symm.trans hC.1
      refine e.to (fun k' hk' => ?_)
      unfold updV
      by_cases hkk : k' = k
      · subst hkk
        rw [if_pos rfl]
        unfold gV gSetI
        rw [hf, hr, if_neg (by decide)]
        simp [up2, gx, gk, gl, gi, gr, ga, gb]
      · rw [if_neg hkk]
        have hne : gFn cj k' ≠ f := fun z => hkk (gFn_inj cj hlt k' (by rw [gFs_len cj hlt _ hC.1]; exact hk') k (by rw [gFs_len cj hlt _ hC.1]; exact hkN) (z.trans hf.symm))
        unfold gV gSetI
        simp [up2, hne, gx, gk, gl, gi, gr, ga, gb]
    · refine ((h3 b cj q hq hb).kept (oq b hba)).to (fun k' hk' => ?_)
      unfold gV gSetI
      simp [up2, hba, gx, gk, gl, gi, gr, ga, gb]
  · have hba : b ≠ a := fun z => by
      subst z
      have : 100 + t = ci + 1 := hb.symm.trans hk
      omega
    rw [oq b hba]
    exact h4 b t ht hb
theorem HoldG.setR (h : HoldG X g H) {ci : Nat} {C : String} {T : u_T} {N a k f : Nat} {v : Option Nat} (hC : gCl ci C T N) (hk : gk g a = ci + 1) (hkN : k < N) (hf : gFn ci k = f) (hr : gIsRef f = true) (e : t_OB a ((cxD X).1 ci) N ((cxD X).2 ci) H1 (updV (gV g ci a) k (va_rf v))) (z : H1.size = H.size) (oq : ∀ q : Nat, q ≠ a → H1[q]? = H[q]?) : HoldG X (gSetR g f a v) H1 := by
  obtain ⟨h1, h2, h3, h4⟩ := h
  have hlt := gCi_lt hC.1
  refine ⟨z.trans h1, h2, fun b cj q hq hb => ?_, fun b t ht hb => ?_⟩
  · by_cases hba : b = a
    · subst hba
      have hcj : cj = ci := by
        have : cj + 1 = ci + 1 := hb.symm.trans hk
        omega
      subst hcj
      cases hq.symm.trans hC.1
      refine e.to (fun k' hk' => ?_)
      unfold updV
      by_cases hkk : k' = k
      · subst hkk
        rw [if_pos rfl]
        unfold gV gSetR
        rw [hf, hr, if_pos rfl]
        simp [up2, gx, gk, gl, gi, gr, ga, gb]
      · rw [if_neg hkk]
        have hne : gFn cj k' ≠ f := fun z => hkk (gFn_inj cj hlt k' (by rw [gFs_len cj hlt _ hC.1]; exact hk') k (by rw [gFs_len cj hlt _ hC.1]; exact hkN) (z.trans hf.symm))
        unfold gV gSetR
        simp [up2, hne, gx, gk, gl, gi, gr, ga, gb]
    · refine ((h3 b cj q hq hb).kept (oq b hba)).to (fun k' hk' => ?_)
      unfold gV gSetR
      simp [up2, hba, gx, gk, gl, gi, gr, ga, gb]
  · have hba : b ≠ a := fun z => by
      subst z
      have : 100 + t = ci + 1 := hb.symm.trans hk
      omega
    rw [oq b hba]
    exact h4 b t ht hb
theorem HoldG.setE (h : HoldG X g H) {a t j : Nat} {g' : gG} (ht : t < 5) (hk : gk g a = 100 + t) (hx : gx g' = gx g) (hkd : gk g' = gk g) (hl : gl g' = gl g) (hi : gi g' = gi g) (hr : gr g' = gr g) (hW : ∀ (b u q : Nat), u < 5 → gk g b = 100 + u → gW g' u b q = if b = a ∧ q = j then gW g' t a j else gW g u b q) (e : H1[a]? = some (arrV (cxB X t) (gl g a) (updV (gW g t a) j (gW g' t a j)))) (z : H1.size = H.size) (oq : ∀ q : Nat, q ≠ a → H1[q]? = H[q]?) : HoldG X g' H1 := by
  obtain ⟨h1, h2, h3, h4⟩ := h
  refine ⟨by rw [hx]; exact z.trans h1, by rw [hkd, hx]; exact h2, fun b cj q hq hb => ?_, fun b u hu hb => ?_⟩
  · rw [hkd] at hb
    have hlt := gCi_lt hq
    have hba : b ≠ a := fun z => by
      subst z
      have : 100 + t = cj + 1 := hk.symm.trans hb
      omega
    refine ((h3 b cj q hq hb).kept (oq b hba)).to (fun k' _ => ?_)
    unfold gV
    rw [hi, hr]
  · rw [hkd] at hb
    rw [hl]
    by_cases hba : b = a
    · subst hba
      have hut : u = t := by
        have : 100 + u = 100 + t := hb.symm.trans hk
        omega
      subst hut
      refine ⟨?_, (h4 b u hu hb).2⟩
      rw [e]
      congr 2
      funext q
      unfold updV
      rw [hW b u q hu hb]
      by_cases hq : q = j
      · rw [if_pos hq, if_pos ⟨rfl, hq⟩]
      · rw [if_neg hq, if_neg (fun z => hq z.2)]
    · refine ⟨?_, (h4 b u hu hb).2⟩
      rw [oq b hba, (h4 b u hu hb).1]
      congr 2
      funext q
      rw [hW b u q hu hb, if_neg (fun z => hba z.1)]
theorem HoldG.setA (h : HoldG X g H) {a t j : Nat} {v : Int32} (ht : t < 2) (hk : gk g a = 100 + t) (e : H1[a]? = some (arrV (cxB X t) (gl g a) (updV (gW g t a) j (.int v)))) (z : H1.size = H.size) (oq : ∀ q : Nat, q ≠ a → H1[q]? = H[q]?) : HoldG X (gSetA g a j v) H1 := by
  have hv : gW (gSetA g a j v) t a j = .int v := by unfold gW gSetA; rw [if_pos ht]; simp [up2, gx, gk, gl, gi, gr, ga, gb]
  refine h.setE (t := t) (j := j) (by omega) hk rfl rfl rfl rfl rfl (fun b u q hu hb => ?_) (by rw [hv]; exact e) z oq
  by_cases hb2 : b = a ∧ q = j
  · obtain ⟨rfl, rfl⟩ := hb2
    have hut : u = t := by
      have : 100 + u = 100 + t := hb.symm.trans hk
      omega
    subst hut
    rw [if_pos ⟨rfl, rfl⟩]
  · rw [if_neg hb2]
    unfold gW gSetA
    simp [up2, hb2, gx, gk, gl, gi, gr, ga, gb]
theorem HoldG.setB (h : HoldG X g H) {a t j : Nat} {v : Option Nat} (ht : t < 5) (ht2 : 2 ≤ t) (hk : gk g a = 100 + t) (e : H1[a]? = some (arrV (cxB X t) (gl g a) (updV (gW g t a) j (va_rf v)))) (z : H1.size = H.size) (oq : ∀ q : Nat, q ≠ a → H1[q]? = H[q]?) : HoldG X (gSetB g a j v) H1 := by
  have hv : gW (gSetB g a j v) t a j = va_rf v := by unfold gW gSetB; rw [if_neg (by omega)]; simp [up2, gx, gk, gl, gi, gr, ga, gb]
  refine h.setE (t := t) (j := j) ht hk rfl rfl rfl rfl rfl (fun b u q hu hb => ?_) (by rw [hv]; exact e) z oq
  by_cases hb2 : b = a ∧ q = j
  · obtain ⟨rfl, rfl⟩ := hb2
    have hut : u = t := by
      have : 100 + u = 100 + t := hb.symm.trans hk
      omega
    subst hut
    rw [if_pos ⟨rfl, rfl⟩]
  · rw [if_neg hb2]
    unfold gW gSetB
    simp [up2, hb2, gx, gk, gl, gi, gr, ga, gb]
theorem HoldG.new (h : HoldG X g H) {ci : Nat} {C : String} {T : u_T} {N : Nat} (hC : gCl ci C T N) (hA : cxA X H.size) (e : t_OB H.size ((cxD X).1 ci) N ((cxD X).2 ci) H1 (fun k => defaultValue (gTy ci k))) (z : H1.size = H.size + 1) (oq : ∀ q : Nat, q < H.size → H1[q]? = H[q]?) : HoldG X (gNew g ci) H1 := by
  obtain ⟨h1, h2, h3, h4⟩ := h
  have hlt := gCi_lt hC.1
  have hold : ∀ b, gk g b ≠ 0 → b ≠ gx g := fun b hb z => by have := (h2 b hb).2; omega
  refine ⟨by rw [z, h1]; rfl, fun b hb => ?_, fun b cj q hq hb => ?_, fun b t ht hb => ?_⟩
  · unfold gNew up1 at hb ⊢
    by_cases hbx : b = gx g
    · subst hbx
      exact ⟨by rw [← h1]; exact hA, Nat.lt_succ_self _⟩
    · simp only [gk, gx, if_neg hbx] at hb
      exact ⟨(h2 b hb).1, Nat.lt_succ_of_lt (h2 b hb).2⟩
  · unfold gNew up1 at hb
    by_cases hbx : b = gx g
    · subst hbx
      simp only [gk, gx, if_true] at hb
      have hcj : cj = ci := by
        have hb' : ci + 1 = cj + 1 := hb
        omega
      subst hcj
      cases hq.symm.trans hC.1
      rw [← h1]
      refine e.to (fun k hk => ?_)
      have hd := gDef cj hlt k (by rw [gFs_len cj hlt _ hC.1]; exact hk)
      unfold gV gNew
      by_cases hrf : gIsRef (gFn cj k) = true
      · rw [if_pos hrf] at hd ⊢
        rw [hd, h1]
        simp [va_rf, gx, gk, gl, gi, gr, ga, gb]
      · rw [if_neg hrf] at hd ⊢
        rw [hd, h1]
        simp [gx, gk, gl, gi, gr, ga, gb]
    · simp only [gk, gx, if_neg hbx] at hb
      have hlt2 : b < H.size := by rw [h1]; exact (h2 b (by rw [show gk g b = cj + 1 from hb]; omega)).2
      refine ((h3 b cj q hq hb).kept (oq b hlt2)).to (fun k _ => ?_)
      unfold gV gNew
      simp only [gx] at hbx
      simp [hbx, gx, gk, gl, gi, gr, ga, gb]
  · unfold gNew up1 at hb
    by_cases hbx : b = gx g
    · subst hbx
      simp only [gk, gx, if_true] at hb
      omega
    · simp only [gk, gx, if_neg hbx] at hb
      have hlt2 : b < H.size := by rw [h1]; exact (h2 b (by rw [show gk g b = 100 + t from hb]; omega)).2
      rw [oq b hlt2]
      exact h4 b t ht hb
theorem HoldG.newA (h : HoldG X g H) {t n : Nat} {v0 : Value} (ht : t < 5) (hn : n < 1000) (hv0 : v0 = if t < 2 then .int 0 else .null) (hA : cxA X H.size) (e : H1[H.size]? = some (arrV (cxB X t) n (fun _ => v0))) (z : H1.size = H.size + 1) (oq : ∀ q : Nat, q < H.size → H1[q]? = H[q]?) : HoldG X (gNewA g t n) H1 := by
  obtain ⟨h1, h2, h3, h4⟩ := h
  refine ⟨by rw [z, h1]; rfl, fun b hb => ?_, fun b cj q hq hb => ?_, fun b u hu hb => ?_⟩
  · unfold gNewA up1 at hb ⊢
    by_cases hbx : b = gx g
    · subst hbx
      exact ⟨by rw [← h1]; exact hA, Nat.lt_succ_self _⟩
    · simp only [gk, gx, if_neg hbx] at hb
      exact ⟨(h2 b hb).1, Nat.lt_succ_of_lt (h2 b hb).2⟩
  · have hlt := gCi_lt hq
    unfold gNewA up1 at hb
    by_cases hbx : b = gx g
    · subst hbx
      simp only [gk, gx, if_true] at hb
      omega
    · simp only [gk, gx, if_neg hbx] at hb
      have hlt2 : b < H.size := by rw [h1]; exact (h2 b (by rw [show gk g b = cj + 1 from hb]; omega)).2
      refine ((h3 b cj q hq hb).kept (oq b hlt2)).to (fun k _ => ?_)
      rfl
  · unfold gNewA up1 at hb
    by_cases hbx : b = gx g
    · subst hbx
      simp only [gk, gx, if_true] at hb
      have hut : u = t := by
        have hb' : 100 + t = 100 + u := hb
        omega
      subst hut
      refine ⟨?_, by unfold gNewA up1; simp [hn, gx, gk, gl, gi, gr, ga, gb]⟩
      rw [← h1, e]
      congr 2
      · unfold gNewA up1; simp [h1, gx, gk, gl, gi, gr, ga, gb]
      · funext q
        rw [hv0]
        unfold gW gNewA up1
        by_cases h2t : u < 2
        · rw [if_pos h2t, if_pos h2t]; simp [h1, gx, gk, gl, gi, gr, ga, gb]
        · rw [if_neg h2t, if_neg h2t]; simp [h1, va_rf, gx, gk, gl, gi, gr, ga, gb]
    · simp only [gk, gx, if_neg hbx] at hb
      have hlt2 : b < H.size := by rw [h1]; exact (h2 b (by rw [show gk g b = 100 + u from hb]; omega)).2
      obtain ⟨g1, g2⟩ := h4 b u hu hb
      simp only [gx] at hbx
      refine ⟨?_, by unfold gNewA up1; simp [hbx, gx, gk, gl, gi, gr, ga, gb]; exact g2⟩
      rw [oq b hlt2, g1]
      congr 2
      · unfold gNewA up1; simp [hbx, gx, gk, gl, gi, gr, ga, gb]
      · funext q
        unfold gW gNewA up1
        simp [hbx, gx, gk, gl, gi, gr, ga, gb]
end GHOST
