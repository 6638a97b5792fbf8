/-! lines, array lists and chains: contracts over the component's picture -/
section LIFT
variable {X : gCx} {l : Launch} {s : sS}
theorem gM_lift {M : gMd} {d mc ms : Nat} {av : List Value} {Po : Option Value → sS → Prop} (h : ∀ g, Abs X g s → gM X l (HoldP X eqG) M d mc ms av g (fun r g' => ∃ s', Po r s' ∧ Abs X g' s')) : gM X l (HoldP X (Abs X)) M d mc ms av s Po := by
  refine gM_conv (Hd' := HoldP X eqG) (fun H hH => ?_)
  obtain ⟨g, hG, hA⟩ := hH
  refine ⟨g, _, ⟨g, hG, rfl⟩, h g hA, ?_⟩
  rintro r y' H' ⟨s', h1, h2⟩ ⟨g', hG', rfl⟩
  exact ⟨s', h1, _, hG', h2⟩
/-- where nothing changes -/
theorem gM_liftR {M : gMd} {d mc ms : Nat} {av : List Value} {v : Option Nat} (h : ∀ g, Abs X g s → gMr X l (HoldP X eqG) M d mc ms av g v g) : gMr X l (HoldP X (Abs X)) M d mc ms av s v s :=
  gM_lift (fun g hA => gM_mono (h g hA) (fun r y hr => by obtain ⟨rfl, rfl⟩ := hr; exact ⟨s, ⟨rfl, rfl⟩, hA⟩))
theorem gM_liftI {M : gMd} {d mc ms : Nat} {av : List Value} {v : Int32} (h : ∀ g, Abs X g s → gMi X l (HoldP X eqG) M d mc ms av g v g) : gMi X l (HoldP X (Abs X)) M d mc ms av s v s :=
  gM_lift (fun g hA => gM_mono (h g hA) (fun r y hr => by obtain ⟨rfl, rfl⟩ := hr; exact ⟨s, ⟨rfl, rfl⟩, hA⟩))
theorem Abs.size {g : gG} (h : Abs X g s) {a : Nat} (ha : gk s.1 a = 4) : gk g a = 4 ∧ gi g 21 a = nI (sq s a).length := by
  obtain ⟨cs, hL⟩ := h.2.2.2.2.1
  exact ⟨h.kd ha (by decide), (hL.1 a ha).2.2.1⟩
/-! lines -/
def sPush (s : sS) (a v : Nat) : sS := sSetQ (sBump s) a (sq s a ++ [v])
theorem Lines.new {g : gG} {cs : Nat → List Nat} (h : Abs X g s) (hL : Lines g s cs) : Lines (gNew g 4) (sBump s) cs := by
  have t1 := h.top.1
  have ng : ∀ a, gk g a ≠ 0 → a ≠ gx g := fun a h z => h (by rw [z]; exact t1)
  obtain ⟨l1, l2, l3⟩ := hL
  refine ⟨fun a ha => ?_, fun a c ha hc => ?_, l3⟩
  · have ha' : gk g a = 4 := h.kd ha (by decide)
    have z := ng a (by omega)
    refine (l1 a ha).kept (if_neg z) (if_neg z) (if_neg z) (fun c hc => ?_)
    have y := ng c (by rw [(l2 a c ha hc).2]; omega)
    exact ⟨if_neg y, if_neg y⟩
  · obtain ⟨h1, h2⟩ := l2 a c ha hc
    refine ⟨h1, ?_⟩
    have y := ng c (by omega)
    exact (up1_ne y).trans h2
theorem LineAt.add {g g' : gG} {a q v : Nat} {cs l2 : List Nat} (h : LineAt g a cs l2) (hq : q ∉ cs) (e1 : gr g' 19 a = (cs ++ [q]).head?) (e2 : gr g' 20 a = some q) (e3 : gi g' 21 a = nI (l2.length + 1)) (e4 : gr g' 22 q = some v) (e5 : gr g' 23 q = none) (e6 : ∀ c ∈ cs, gr g' 22 c = gr g 22 c) (e7 : ∀ c ∈ cs, gr g' 23 c = if cs.getLast? = some c then some q else gr g 23 c) : LineAt g' a (cs ++ [q]) (l2 ++ [v]) := by
  obtain ⟨h1, h2, h3, h4, h5, h6⟩ := h
  refine ⟨e1, by rw [e2]; simp, by rw [e3]; simp, by simp [h4], ?_, fun i c hc => ?_⟩
  · rw [List.nodup_append]
    exact ⟨h5, by simp, fun x hx y hy => by rw [List.mem_singleton.mp hy]; exact fun z => hq (by rw [← z]; exact hx)⟩
  · by_cases hi : i < cs.length
    · rw [List.getElem?_append_left hi] at hc
      have hm := List.mem_of_getElem? hc
      obtain ⟨f1, f2⟩ := h6 i c hc
      refine ⟨by rw [e6 c hm, f1, List.getElem?_append_left (by omega)], ?_⟩
      rw [e7 c hm]
      by_cases hl : i + 1 < cs.length
      · rw [if_neg, f2, List.getElem?_append_left hl]
        intro z
        rw [List.getLast?_eq_getElem?] at z
        have := nodup_eq h5 hc z
        omega
      · have hl2 : i + 1 = cs.length := by omega
        rw [if_pos, hl2]
        · simp
        · rw [List.getLast?_eq_getElem?, ← hl2]
          simpa using hc
    · have hil : i = cs.length := by
        have := (List.getElem?_eq_some_iff.mp hc).1
        simp at this
        omega
      subst hil
      have : q = c := by simpa using hc
      subst this
      refine ⟨by rw [e4, h4]; simp, by rw [e5]; simp⟩
theorem Abs.push {g g' : gG} (h : Abs X g s) {a v : Nat} (ha : gk s.1 a = 4) {cs : Nat → List Nat} (hL : Lines g s cs)
    (hg : g' = gSetI (gSetR (match (cs a).getLast? with | none => gSetR (gSetR (gNew g 4) 22 (gx g) (some v)) 19 a (some (gx g)) | some z => gSetR (gSetR (gNew g 4) 22 (gx g) (some v)) 23 z (some (gx g))) 20 a (some (gx g))) 21 a (nI ((sq s a).length + 1))) : Abs X g' (sPush s a v) := by
  have t1 := h.top.1
  have ng : ∀ a, gk g a ≠ 0 → a ≠ gx g := fun a h z => h (by rw [z]; exact t1)
  have hb : Abs X (gNew g 4) (sBump s) := h.bump rfl rfl (fun a z => if_neg z) (fun a z => ⟨rfl, rfl, rfl⟩) (fun f a z => ⟨if_neg z, if_neg z⟩)
  have hL2 := Lines.new h hL
  have ha' : gk g a = 4 := h.kd ha (by decide)
  have az := ng a (by omega)
  have cz : ∀ c ∈ cs a, c ≠ gx g := fun c hc => ng c (by rw [(hL.2.1 a c ha hc).2]; omega)
  have hq : gx g ∉ cs a := fun z => cz _ z rfl
  have hA := hL2.1 a ha
  have hnq : ∀ b c, gk (sBump s).1 b = 4 → c ∈ cs a ++ [gx g] → c ∈ cs b → b = a := fun b c hb hc hc2 => by
    rcases List.mem_append.mp hc with hc | hc
    · exact hL.2.2 b a c hb ha hc2 hc
    · rw [List.mem_singleton.mp hc] at hc2
      exact absurd rfl (ng _ (by rw [(hL.2.1 b _ hb hc2).2]; omega))
  refine hb.line hL2 (us := cs a ++ [gx g]) (cs' := cs a ++ [gx g]) ha ?_ ?_ hnq (fun c hc => ⟨?_, ?_, fun b hb => hnq b c hb hc⟩)
  · subst hg
    cases hl : (cs a).getLast? with
    | none =>
      refine ⟨rfl, rfl, rfl, rfl, rfl, fun f b hf => ?_, fun f b hf hf2 => ?_⟩
      · simp only [gSetI, gSetR, up2, gi]
        rw [if_neg hf]
      · simp only [gSetI, gSetR, up2, gr]
        rw [if_neg (fun z => hf ⟨Or.inr z.1, z.2⟩), if_neg (fun z => hf ⟨Or.inl z.1, z.2⟩), if_neg (fun z => hf2 ⟨Or.inl z.1, by rw [z.2]; simp [gx]⟩)]
    | some z =>
      have hz := List.mem_of_getLast? hl
      refine ⟨rfl, rfl, rfl, rfl, rfl, fun f b hf => ?_, fun f b hf hf2 => ?_⟩
      · simp only [gSetI, gSetR, up2, gi]
        rw [if_neg hf]
      · simp only [gSetI, gSetR, up2, gr]
        rw [if_neg (fun z => hf ⟨Or.inr z.1, z.2⟩), if_neg (fun y => hf2 ⟨Or.inr y.1, by rw [y.2]; exact List.mem_append_left _ hz⟩), if_neg (fun z => hf2 ⟨Or.inl z.1, by rw [z.2]; simp [gx]⟩)]
  · subst hg
    cases hl : (cs a).getLast? with
    | none =>
      have h0 : cs a = [] := List.getLast?_eq_none_iff.mp hl
      have hq' : gx g ∉ cs a := hq
      refine hA.add hq' ?_ ?_ ?_ ?_ ?_ (fun c hc => ?_) (fun c hc => ?_)
      · rw [h0]; simp [gSetI, gSetR, up2, gr, gx]
      · simp [gSetI, gSetR, up2, gr, gx]
      · simp [gSetI, gSetR, up2, gi, sBump]
      · simp [gSetI, gSetR, up2, gr, gx]
      · simp [gSetI, gSetR, up2, gr, gx, gNew]
      · rw [h0] at hc; cases hc
      · rw [h0] at hc; cases hc
    | some z =>
      have hz := List.mem_of_getLast? hl
      refine hA.add hq ?_ ?_ ?_ ?_ ?_ (fun c hc => ?_) (fun c hc => ?_)
      · have e : (cs a ++ [gx g]).head? = (cs a).head? := by
          cases hc : cs a with
          | nil => rw [hc] at hz; cases hz
          | cons u v => rfl
        rw [e, ← hA.1]
        simp [gSetI, gSetR, up2, gr]
      · simp [gSetI, gSetR, up2, gr, gx]
      · simp [gSetI, gSetR, up2, gi, sBump]
      · simp [gSetI, gSetR, up2, gr, gx]
      · have := (cz z hz).symm
        simp only [gx] at this
        simp [gSetI, gSetR, up2, gr, gx, gNew, this]
      · have := cz c hc
        simp only [gx] at this
        simp [gSetI, gSetR, up2, gr, gx, this]
      · rw [hl]
        by_cases y : z = c
        · subst y; simp [gSetI, gSetR, up2, gr, gx]
        · have y' : ¬ c = z := fun w => y w.symm
          simp [gSetI, gSetR, up2, gr, gx, y, y']
  · rcases List.mem_append.mp hc with hc | hc
    · exact (hL.2.1 a c ha hc).1
    · rw [List.mem_singleton.mp hc]; exact h.top.2
  · rcases List.mem_append.mp hc with hc | hc
    · exact (hL2.2.1 a c ha hc).2
    · rw [List.mem_singleton.mp hc]; exact up1_pos
theorem cS_add (a v : Nat) (ha : gk s.1 a = 4) : gMv X l (HoldP X (Abs X)) M_Line_add 2 1 2 [.ref a, .ref v] s (sPush s a v) := by
  refine gM_lift (fun g h => ?_)
  obtain ⟨cs, hL⟩ := id h.2.2.2.2.1
  have ha' : gk g a = 4 := h.kd ha (by decide)
  have t1 := h.top.1
  have ng : ∀ a, gk g a ≠ 0 → a ≠ gx g := fun a h z => h (by rw [z]; exact t1)
  have hA := hL.1 a ha
  cases hl : (cs a).getLast? with
  | none =>
    refine gM_mono (c_Line_add_0 X l g a v (gx g) (sq s a).length ha' rfl (ng a (by omega)) hA.2.2.1 (hA.2.1.trans hl)) (fun r y hr => ?_)
    obtain ⟨rfl, rfl⟩ := hr
    exact ⟨_, ⟨rfl, rfl⟩, h.push ha hL (by rw [hl])⟩
  | some z =>
    have hz := (hL.2.1 a z ha (List.mem_of_getLast? hl)).2
    refine gM_mono (c_Line_add_1 X l g a v (gx g) (sq s a).length ha' rfl (ng a (by omega)) hA.2.2.1 z (hA.2.1.trans hl) hz (ng z (by omega))) (fun r y hr => ?_)
    obtain ⟨rfl, rfl⟩ := hr
    exact ⟨_, ⟨rfl, rfl⟩, h.push ha hL (by rw [hl])⟩
theorem cS_take_nil (a : Nat) (ha : gk s.1 a = 4) (h0 : sq s a = []) : gMr X l (HoldP X (Abs X)) M_Line_take 0 0 0 [.ref a] s none s := by
  refine gM_liftR (fun g h => ?_)
  obtain ⟨cs, hL⟩ := id h.2.2.2.2.1
  obtain ⟨h1, h2, h3, h4, -⟩ := hL.1 a ha
  rw [h0] at h4
  exact c_Line_take_0 X l g a (h.kd ha (by decide)) (by rw [h1, List.length_eq_zero_iff.mp h4]; rfl)
theorem LineAt.tail {g g' : gG} {a c v : Nat} {cs l2 : List Nat} (h : LineAt g a (c :: cs) (v :: l2)) (e1 : gr g' 19 a = cs.head?) (e2 : gr g' 20 a = cs.getLast?) (e3 : gi g' 21 a = nI l2.length) (e6 : ∀ c ∈ cs, gr g' 22 c = gr g 22 c ∧ gr g' 23 c = gr g 23 c) : LineAt g' a cs l2 := by
  obtain ⟨h1, h2, h3, h4, h5, h6⟩ := h
  refine ⟨e1, e2, e3, by simpa using h4, (List.nodup_cons.mp h5).2, fun i b hb => ?_⟩
  obtain ⟨q1, q2⟩ := e6 b (List.mem_of_getElem? hb)
  have := h6 (i + 1) b (by simpa using hb)
  rw [q1, q2]
  simpa using this
theorem cS_take (a v : Nat) (vs : List Nat) (ha : gk s.1 a = 4) (h0 : sq s a = v :: vs) : gMr X l (HoldP X (Abs X)) M_Line_take 0 0 0 [.ref a] s (some v) (sSetQ s a vs) := by
  refine gM_lift (fun g h => ?_)
  obtain ⟨cs, hL⟩ := id h.2.2.2.2.1
  have ha' : gk g a = 4 := h.kd ha (by decide)
  have hA := hL.1 a ha
  rw [h0] at hA
  cases hc : cs a with
  | nil => rw [hc] at hA; have := hA.2.2.2.1; simp at this
  | cons c cs2 =>
    rw [hc] at hA
    have hck : gk g c = 5 := (hL.2.1 a c ha (by rw [hc]; exact List.mem_cons_self)).2
    have hv := (hA.cell (i := 0) (c := c) rfl)
    have hsz : gi g 21 a = nI (vs.length + 1) := by rw [hA.2.2.1]; simp
    have fin : ∀ g', LSame a [] g g' → gr g' 19 a = cs2.head? → gr g' 20 a = cs2.getLast? → gi g' 21 a = nI vs.length → Abs X g' (sSetQ s a vs) := fun g' e f1 f2 f3 =>
      h.line hL (us := []) (cs' := cs2) ha e (hA.tail f1 f2 f3 (fun b _ => ⟨e.2.2.2.2.2.2 22 b (by omega) (by simp), e.2.2.2.2.2.2 23 b (by omega) (by simp)⟩)) (fun _ _ _ z => by simp at z) (fun b hb => by
        have hb2 : b ∈ cs a := by rw [hc]; exact List.mem_cons_of_mem _ hb
        exact ⟨(hL.2.1 a b ha hb2).1, (hL.2.1 a b ha hb2).2, fun u hu hu2 => hL.2.2 u a b hu ha hu2 hb2⟩)
    have same : ∀ (v1 v2 : Option Nat) (v3 : Int32), LSame a [] g (gSetI (gSetR (gSetR g 19 a v1) 20 a v2) 21 a v3) := fun v1 v2 v3 => by
      refine ⟨rfl, rfl, rfl, rfl, rfl, fun f b hf => ?_, fun f b hf hf2 => ?_⟩
      · simp only [gSetI, gSetR, up2, gi]
        rw [if_neg hf]
      · simp only [gSetI, gSetR, up2, gr]
        rw [if_neg (fun z => hf ⟨Or.inr z.1, z.2⟩), if_neg (fun z => hf ⟨Or.inl z.1, z.2⟩)]
    cases cs2 with
    | nil =>
      refine gM_mono (c_Line_take_1 X l g a ha' c vs.length (some v) hck hA.1 (by rw [hv.1]; rfl) (by rw [hv.2]; rfl) hsz) (fun r y hr => ?_)
      obtain ⟨rfl, rfl⟩ := hr
      exact ⟨_, ⟨rfl, rfl⟩, fin _ (same _ _ _) (by simp [gSetI, gSetR, up2, gr]) (by simp [gSetI, gSetR, up2, gr]) (by simp [gSetI, gSetR, up2, gi])⟩
    | cons c2 cs3 =>
      refine gM_mono (c_Line_take_2 X l g a ha' c c2 vs.length (some v) (c2 :: cs3).getLast? hck hA.1 (by rw [hv.1]; rfl) (by rw [hv.2]; rfl) (by rw [hA.2.1]; simp) hsz) (fun r y hr => ?_)
      obtain ⟨rfl, rfl⟩ := hr
      exact ⟨_, ⟨rfl, rfl⟩, fin _ (same _ _ _) (by simp [gSetI, gSetR, up2, gr]) (by simp [gSetI, gSetR, up2, gr]) (by simp [gSetI, gSetR, up2, gi])⟩
theorem cS_get (a k : Nat) (ha : gk s.1 a = 4) (hk : k < 2 ^ 31) (hb : (sq s a).length < 2 ^ 30) : gMr X l (HoldP X (Abs X)) M_Line_get 0 0 0 [.ref a, .int (nI k)] s ((sq s a)[k]?) s := by
  refine gM_liftR (fun g h => ?_)
  obtain ⟨cs, hL⟩ := id h.2.2.2.2.1
  have hA := hL.1 a ha
  exact c_Line_get X l g a k (cs a) (sq s a) (h.kd ha (by decide)) hk hA (fun i c hc => (hL.2.1 a c ha (List.mem_of_getElem? hc)).2) (by rw [hA.2.2.2.1]; exact hb)
theorem cS_takeLast (a v m : Nat) (vs : List Nat) (ha : gk s.1 a = 4) (h0 : sq s a = vs ++ [v]) (hm : vs.length = m + 1) (hb : m < 2 ^ 30) : gMr X l (HoldP X (Abs X)) M_Line_takeLast 1 0 0 [.ref a] s (some v) (sSetQ s a vs) := by
  refine gM_lift (fun g h => ?_)
  obtain ⟨cs, hL⟩ := id h.2.2.2.2.1
  have ha' : gk g a = 4 := h.kd ha (by decide)
  have hA := hL.1 a ha
  rw [h0] at hA
  have hlen : (cs a).length = m + 2 := by rw [hA.2.2.2.1]; simp [hm]
  obtain ⟨z, hz⟩ : ∃ z, (cs a)[m + 1]? = some z := ⟨_, List.getElem?_eq_getElem (by omega)⟩
  obtain ⟨c, hc⟩ : ∃ c, (cs a)[m]? = some c := ⟨_, List.getElem?_eq_getElem (by omega)⟩
  have hck : ∀ (i c : Nat), (cs a)[i]? = some c → gk g c = 5 := fun i c hc => (hL.2.1 a c ha (List.mem_of_getElem? hc)).2
  refine gM_mono (c_Line_takeLast X l g _ a m z (some v) (cs a) (vs ++ [v]) ha' hA hck hlen hz (by rw [← hm]; simp) (by rw [hA.2.2.1]; congr 1; simp [hm]) (by rw [hA.2.1, List.getLast?_eq_getElem?, hlen]; exact hz) hb (fun c' hc' => by rw [hc] at hc'; cases hc'; rfl)) (fun r y hr => ?_)
  obtain ⟨rfl, rfl⟩ := hr
  refine ⟨_, ⟨rfl, rfl⟩, h.line hL (us := cs a) (cs' := (cs a).take (m + 1)) ha ?_ ?_ (fun b u hb hu hu2 => hL.2.2 b a u hb ha hu2 hu) (fun b hb => ?_)⟩
  · refine ⟨rfl, rfl, rfl, rfl, rfl, fun f b hf => ?_, fun f b hf hf2 => ?_⟩
    · simp only [gSetI, gSetR, up2, gi]
      rw [if_neg hf]
    · simp only [gSetI, gSetR, up2, gr]
      rw [if_neg (fun z => hf ⟨Or.inr z.1, z.2⟩), if_neg (fun z => hf2 ⟨Or.inr z.1, by rw [z.2]; exact List.mem_of_getElem? hc⟩)]
  · obtain ⟨h1, h2, h3, h4, h5, h6⟩ := hA
    refine ⟨?_, ?_, ?_, ?_, h5.sublist (List.take_sublist _ _), fun i b hb => ?_⟩
    · rw [List.head?_take, if_neg (by omega), ← h1]
      simp [gSetI, gSetR, up2, gr]
    · rw [List.getLast?_eq_getElem?, List.length_take, Nat.min_eq_left (by omega), List.getElem?_take, if_pos (by omega), show m + 1 - 1 = m by omega, hc]
      simp [gSetI, gSetR, up2, gr]
    · simp [gSetI, gSetR, up2, gi, hm]
    · rw [List.length_take, Nat.min_eq_left (by omega), hm]
    · have him : i < m + 1 := by
        have := (List.getElem?_eq_some_iff.mp hb).1
        simp at this
        omega
      rw [List.getElem?_take, if_pos him] at hb
      have hbb := hb
      obtain ⟨q1, q2⟩ := h6 i b hb
      refine ⟨?_, ?_⟩
      · rw [← List.getElem?_append_left (l₂ := [v]) (by omega), ← q1]
        simp [gSetI, gSetR, up2, gr]
      · rw [List.getElem?_take]
        by_cases hi : i = m
        · subst hi
          rw [if_neg (by omega)]
          rw [hc] at hbb; cases hbb
          simp [gSetI, gSetR, up2, gr]
        · rw [if_pos (by omega), ← q2]
          have : b ≠ c := fun z => hi (nodup_eq h5 hb (by rw [z]; exact hc))
          simp [gSetI, gSetR, up2, gr, this]
  · have hb2 : b ∈ cs a := List.mem_of_mem_take hb
    exact ⟨(hL.2.1 a b ha hb2).1, (hL.2.1 a b ha hb2).2, fun u hu hu2 => hL.2.2 u a b hu ha hu2 hb2⟩
/-! array lists -/
def sAddL (s : sS) (a v : Nat) : sS := sSetL (if sl s a = [] then sBump s else s) a (sl s a ++ [v])
theorem sAddL_g (s : sS) (a v : Nat) : (sAddL s a v).1.2 = s.1.2 := by unfold sAddL; split <;> rfl
theorem sAddL_q (s : sS) (a v : Nat) : (sAddL s a v).2.1 = s.2.1 := by unfold sAddL; split <;> rfl
theorem sAddL_r (s : sS) (a v : Nat) : (sAddL s a v).2.2.2 = s.2.2.2 := by unfold sAddL; split <;> rfl
theorem sAddL_l (s : sS) (a v : Nat) : (sAddL s a v).2.2.1 = up1 (sl s) a (sl s a ++ [v]) := by unfold sAddL; split <;> rfl
theorem cS_init (a : Nat) (ha : gk s.1 a = 64) : gMv X l (HoldP X (Abs X)) M_AL_init 3 0 0 [.ref a] s (sBegL s a) := by
  refine gM_lift (fun g h => ?_)
  obtain ⟨ar, hL⟩ := id h.2.2.2.2.2.1
  have ha' : gk g a = 14 := by
    have := h.2.1 a (by omega)
    rw [ha] at this
    simpa using this
  refine gM_mono (c_AL_init X l g a ha') (fun r y hr => ?_)
  obtain ⟨rfl, rfl⟩ := hr
  have hz : gk s.1 (cxZ X) = 0 := by
    by_cases z : gk s.1 (cxZ X) = 0
    · exact z
    · have := h.2.1 _ z
      rw [h.1.2.2.1] at this
      split at this <;> omega
  refine ⟨_, ⟨rfl, rfl⟩, h.list hL (a := a) (b' := cxZ X) (l' := []) (Or.inr ha) rfl rfl rfl rfl (fun _ _ => rfl) (fun f c hf => ?_) (fun f c hf => ?_) hz (fun c _ _ h4 => ?_) (fun _ => rfl) ⟨?_, ?_, by decide, Or.inl ⟨rfl, rfl⟩⟩ rfl⟩
  · simp only [gSetI, gSetR, up2, gi]
    rw [if_neg (fun z => hf ⟨Or.inr z.1, z.2⟩)]
  · simp only [gSetI, gSetR, up2, gr]
    rw [if_neg hf]
  · rw [h.1.2.2.1] at h4; omega
  · simp [gSetI, gSetR, up2, gr]
  · have := h.2.2.2.2.2.2.2.2 a ha
    simp [gSetI, gSetR, up2, gi]
    exact this
theorem cS_size (a : Nat) (ha : gk s.1 a = 14) : gMi X l (HoldP X (Abs X)) M_AL_size 0 0 0 [.ref a] s (nI (sl s a).length) s := by
  refine gM_liftI (fun g h => ?_)
  obtain ⟨ar, hL⟩ := id h.2.2.2.2.2.1
  exact c_AL_size X l g a _ (h.kd ha (by decide)) (hL.1 a ha).2.1
theorem cS_at (a j v : Nat) (ha : gk s.1 a = 14) (hv : (sl s a)[j]? = some v) : gMr X l (HoldP X (Abs X)) M_AL_get 2 0 0 [.ref a, .int (nI j)] s (some v) s := by
  refine gM_liftR (fun g h => ?_)
  obtain ⟨ar, hL⟩ := id h.2.2.2.2.2.1
  obtain ⟨h1, h2, h3, h4 | ⟨h4, h5, h6, h7, h8⟩⟩ := hL.1 a ha
  · rw [h4.1] at hv; simp at hv
  · exact c_AL_get X l g a (ar a) j _ v (h.kd ha (by decide)) h2 (List.getElem?_eq_some_iff.mp hv).1 h3 h1 h5 h7 (h8 j v hv)
theorem cS_put (a v ci N : Nat) (C : String) (T : u_T) (ha : gk s.1 a = 14) (hn : (sl s a).length < 10) (hC : gCl ci C T N) (hca : Cond.castable C "java/lang/Object" ∈ lw_tbl) (hv : gk s.1 v = ci + 1) (hci : ci < 63) : gMi X l (HoldP X (Abs X)) M_AL_add_1 4 1 10 [.ref a, .ref v] s (nI 1) (sAddL s a v) := by
  refine gM_lift (fun g h => ?_)
  obtain ⟨ar, hL⟩ := id h.2.2.2.2.2.1
  have t1 := h.top.1
  have ng : ∀ a, gk g a ≠ 0 → a ≠ gx g := fun a h z => h (by rw [z]; exact t1)
  have ha' : gk g a = 14 := h.kd ha (by decide)
  have hv' : gk g v = ci + 1 := h.kd hv hci
  have az := ng a (by omega)
  obtain ⟨h1, h2, h3, h4⟩ := hL.1 a ha
  by_cases he : sl s a = []
  · have hb : ar a = cxZ X := by
      rcases h4 with h4 | h4
      · exact h4.2
      · exact absurd he h4.1
    rw [hb] at h1
    refine gM_mono (c_AL_add_1_0 X l g a (gx g) v _ ha' rfl az (ng v (by omega)) rfl h1 (by rw [h2, he]; rfl) C T N ci hC hca hv') (fun r y hr => ?_)
    obtain ⟨rfl, rfl⟩ := hr
    refine ⟨_, ⟨rfl, rfl⟩, ?_⟩
    unfold sAddL
    rw [if_pos he, he]
    have hB : Abs X (gNewA g 4 10) (sBump s) := h.bump rfl rfl (fun a z => if_neg z) (fun a z => ⟨if_neg z, if_neg z, if_neg z⟩) (fun f a z => ⟨rfl, rfl⟩)
    have arq : ∀ c, gk s.1 c = 14 → ar c ≠ gx g := fun c hc => by
      obtain ⟨-, -, -, u | u⟩ := hL.1 c hc
      · rw [u.2]; have := h.1.2.2.2; omega
      · exact ng _ (by rw [u.2.1]; omega)
    have hL2 : Lists X (gNewA g 4 10) (sBump s) ar := by
      refine ⟨fun c hc => ?_, fun c c' hc hc' hk => ?_⟩
      · obtain ⟨u1, u2, u3, u4⟩ := hL.1 c hc
        refine ⟨u1, u2, u3, ?_⟩
        rcases u4 with u4 | ⟨v0, v1, v2, v3, v4⟩
        · exact Or.inl u4
        · have z := arq c hc
          refine Or.inr ⟨v0, (up1_ne z).trans v1, v2, (up1_ne z).trans v3, fun j v hj => ?_⟩
          rw [show gb (gNewA g 4 10) (ar c) = gb g (ar c) from up1_ne z]
          exact v4 j v hj
      · rw [show gk (gNewA g 4 10) (ar c) = gk g (ar c) from up1_ne (arq c hc)] at hk
        exact hL.2 c c' hc hc' hk
    refine hB.list hL2 (a := a) (b' := gx g) (l' := [v]) (Or.inl ha) rfl rfl rfl rfl (fun b hb => ?_) (fun f c hf => ?_) (fun f c hf => ?_) h.top.2 (fun c hc _ _ => arq c hc) (fun z => ?_) ⟨?_, ?_, by simp, Or.inr ⟨by simp, up1_pos, up1_pos, fun j u hj => ?_⟩⟩ ?_
    · funext j
      simp only [gSetI, gSetR, gSetB, up2, gb]
      rw [if_neg (fun z => hb z.1)]
      rfl
    · simp only [gSetI, gSetR, gSetB, gNewA, up2, gi]
      rw [if_neg (fun z => hf ⟨Or.inl z.1, z.2⟩), if_neg (fun z => hf ⟨Or.inr z.1, z.2⟩)]
    · simp only [gSetI, gSetR, gSetB, gNewA, up2, gr]
      rw [if_neg hf]
    · have := h.1.2.2.2
      rw [← z] at this
      exact absurd this (Nat.lt_irrefl _)
    · simp [gSetI, gSetR, gSetB, gNewA, up2, gr, gx]
    · simp [gSetI, gSetR, gSetB, gNewA, up2, gi]
    · have hj0 : j = 0 := by
        have := (List.getElem?_eq_some_iff.mp hj).1
        simp at this
        exact this
      subst hj0
      have : v = u := by simpa using hj
      subst this
      simp [gSetI, gSetR, gSetB, gNewA, up2, gb, gx]
    · have hk : up1 (gk s.1) a 14 = gk s.1 := by
        funext u
        unfold up1
        by_cases z : u = a
        · rw [if_pos z, z, ha]
        · rw [if_neg z]
      show sSetL (sBump s) a ([] ++ [v]) = ((gx s.1 + 1, up1 (gk s.1) a 14, s.1.2.2), sq s, up1 (sl s) a [v], sr s)
      rw [hk]
      rfl
  · rcases h4 with h4 | ⟨h4, h5, h6, h7, h8⟩
    · exact absurd h4.1 he
    refine gM_mono (c_AL_add_1 X l g a (ar a) v _ _ ha' rfl h1 h2 h5 h7 hn C T N ci hC hca hv') (fun r y hr => ?_)
    obtain ⟨rfl, rfl⟩ := hr
    refine ⟨_, ⟨rfl, rfl⟩, ?_⟩
    unfold sAddL
    rw [if_neg he]
    refine h.list hL (a := a) (b' := ar a) (l' := sl s a ++ [v]) (Or.inl ha) rfl rfl rfl rfl (fun b hb => ?_) (fun f c hf => ?_) (fun f c hf => ?_) h6 (fun c hc hc2 h10 z => hc2 (hL.2 c a hc ha (by rw [z]; exact h10) z)) (fun z => ?_) ⟨?_, ?_, by simp; omega, Or.inr ⟨by simp, h5, h7, fun j u hj => ?_⟩⟩ ?_
    · funext j
      simp only [gSetI, gSetB, up2, gb]
      rw [if_neg (fun z => hb z.1)]
    · simp only [gSetI, gSetB, up2, gi]
      rw [if_neg (fun z => hf ⟨Or.inl z.1, z.2⟩), if_neg (fun z => hf ⟨Or.inr z.1, z.2⟩)]
    · rfl
    · rw [z, h.1.2.2.1] at h5; omega
    · exact h1
    · simp [gSetI, gSetB, up2, gi]
    · by_cases hj2 : j < (sl s a).length
      · rw [List.getElem?_append_left hj2] at hj
        have := h8 j u hj
        simp only [gSetI, gSetB, up2, gb] at this ⊢
        rw [if_neg (fun z => by omega)]
        exact this
      · have hj0 : j = (sl s a).length := by
          have := (List.getElem?_eq_some_iff.mp hj).1
          simp at this
          omega
        subst hj0
        have : v = u := by simpa using hj
        subst this
        simp [gSetI, gSetB, up2, gb]
    · have hk : up1 (gk s.1) a 14 = gk s.1 := by
        funext u
        unfold up1
        by_cases z : u = a
        · rw [if_pos z, z, ha]
        · rw [if_neg z]
      rw [hk]
      rfl
/-! chains of translations -/
theorem find_congr {f h : Nat → Bool} : ∀ {us : List Nat}, (∀ t ∈ us, f t = h t) → us.find? f = us.find? h
  | [], _ => rfl
  | t :: us, e => by
    rw [List.find?_cons, List.find?_cons, e t List.mem_cons_self, find_congr (fun u hu => e u (List.mem_cons_of_mem _ hu))]
theorem Abs.chained {g : gG} (h : Abs X g s) {p : Nat} (hp : gk s.1 p = 3) : Ch g (sr s p) ∧ ∀ t ∈ sr s p, gk s.1 t = 6 := by
  obtain ⟨h1, h2⟩ := h.2.2.2.2.2.2.1.1 p hp
  exact ⟨Ch.of (fun t ht => h.kd (h2 t ht) (by decide)) h1.2.2.2.2, h2⟩
theorem cS_find (p : Nat) (pg : Int32) (hp : gk s.1 p = 3) : gMr X l (HoldP X (Abs X)) M_Processor_find 0 0 0 [.ref p, .int pg] s ((sr s p).find? (fun t => decide (gi s.1 24 t = pg))) s := by
  refine gM_liftR (fun g h => ?_)
  obtain ⟨h1, h2⟩ := h.2.2.2.2.2.2.1.1 p hp
  have := c_Processor_find X l g p pg (sr s p) (h.kd hp (by decide)) (h.chained hp).1 h1.1
  rw [find_congr (h := fun t => decide (gi s.1 24 t = pg)) (fun t ht => by rw [(h.2.2.2.1 24 t (by rw [h2 t ht]; decide) (by rw [h2 t ht]; decide) rfl).1])] at this
  exact this
theorem cS_drop (p fr n : Nat) (pg : Nat → Nat) (hp : gk s.1 p = 3) (hpg : ∀ t ∈ sr s p, gi s.1 24 t = nI (pg t) ∧ pg t < 100) (hfr : fr < 100) (hn : n < 100) : gMv X l (HoldP X (Abs X)) M_Processor_drop 0 0 0 [.ref p, .int (nI fr), .int (nI n)] s (sSetT s p ((sr s p).filter (fun t => !decide (fr ≤ pg t ∧ pg t < fr + n)))) := by
  refine gM_lift (fun g h => ?_)
  obtain ⟨h1, h2⟩ := h.2.2.2.2.2.2.1.1 p hp
  refine gM_mono (c_Processor_drop X l g p fr n pg (sr s p) (h.kd hp (by decide)) (h.chained hp).1 h1.1 h1.2.1 h1.2.2.2.1 (fun t ht => ⟨(h.2.2.2.1 24 t (by rw [h2 t ht]; decide) (by rw [h2 t ht]; decide) rfl).1.trans (hpg t ht).1, (hpg t ht).2⟩) hfr hn) (fun r y hr => ?_)
  obtain ⟨rfl, e1, e2, e3, e4⟩ := hr
  refine ⟨_, ⟨rfl, rfl⟩, ?_⟩
  generalize (fun t => !decide (fr ≤ pg t ∧ pg t < fr + n)) = keep at e2 e3 e4
  have sub : ∀ t, t ∈ (sr s p).filter keep → t ∈ sr s p := fun t ht => (List.mem_filter.mp ht).1
  refine h.chain (us := sr s p) (ts' := (sr s p).filter keep) hp e1 ⟨e3, e4, Nat.le_trans (List.length_filter_le _ _) h1.2.2.1, h1.2.2.2.1.sublist List.filter_sublist, e2.at⟩ (fun t ht => h2 t (sub t ht)) (fun q t hq ht ht2 => h.2.2.2.2.2.2.1.2 q p t hq hp ht2 (sub t ht)) (fun q t hq ht ht2 => h.2.2.2.2.2.2.1.2 q p t hq hp ht2 ht) rfl rfl rfl rfl (fun _ _ _ => rfl) ⟨rfl, rfl⟩ rfl (fun t ht h0 => ⟨h0, fun z => ?_, fun z => ?_⟩)
  · exact (h.2.2.2.2.2.2.2.1 t ht h0).2 p hp (sub t z)
  · exact (h.2.2.2.2.2.2.2.1 t ht h0).2 p hp z
theorem cS_putT (p t : Nat) (hp : gk s.1 p = 3) (ht : gk s.1 t = 6) (h0 : gr s.1 27 t = none) : gMv X l (HoldP X (Abs X)) M_Processor_put 0 0 0 [.ref p, .ref t] s (sPutT s p t ((if (sr s p).length = 3 then (sr s p).tail else sr s p) ++ [t])) := by
  refine gM_lift (fun g h => ?_)
  obtain ⟨h1, h2⟩ := h.2.2.2.2.2.2.1.1 p hp
  have hC := (h.chained hp).1
  obtain ⟨n1, n2⟩ := h.2.2.2.2.2.2.2.1 t ht h0
  have nt := n2 p hp
  have kp := h.kd hp (by decide)
  have kt := h.kd ht (by decide)
  obtain ⟨x1, x2, x3, x4, x5⟩ := h1
  have fin : ∀ (g' : gG) (ts : List Nat), TSame p (sr s p) g g' → gr g' 12 p = (ts ++ [t]).head? → gi g' 13 p = nI (ts.length + 1) → ts.length ≤ 2 → (∀ u ∈ ts, u ∈ sr s p) → ts.Nodup → Ch g' (ts ++ [t]) → Abs X g' (sPutT s p t (ts ++ [t])) := fun g' ts e1 e2 e3 e4 e5 e6 e7 => by
    have hin : ∀ u, u ∈ ts ++ [t] → u ∈ sr s p ∨ u = t := fun u hu => by
      rcases List.mem_append.mp hu with hu | hu
      · exact Or.inl (e5 u hu)
      · exact Or.inr (List.mem_singleton.mp hu)
    refine h.chain (us := sr s p) (ts' := ts ++ [t]) hp e1 ⟨e2, by rw [e3]; simp, by simp; omega, ?_, e7.at⟩ (fun u hu => ?_) (fun q u hq hu hu2 => ?_) (fun q t hq ht ht2 => h.2.2.2.2.2.2.1.2 q p t hq hp ht2 ht) rfl rfl rfl rfl (fun f a hf => ?_) ⟨rfl, rfl⟩ rfl (fun u hu hu0 => ?_)
    · rw [List.nodup_append]
      exact ⟨e6, by simp, fun x hx y hy => by rw [List.mem_singleton.mp hy]; exact fun z => nt (by rw [← z]; exact e5 x hx)⟩
    · rcases hin u hu with z | z
      · exact h2 u z
      · rw [z]; exact ht
    · rcases hin u hu with z | z
      · exact h.2.2.2.2.2.2.1.2 q p u hq hp hu2 z
      · rw [z] at hu2; exact absurd hu2 (n2 q hq)
    · show up2 (gr s.1) 27 t (some 0) f a = gr s.1 f a
      unfold up2
      rw [if_neg (fun z => hf z.1)]
    · have hu1 : up2 (gr s.1) 27 t (some 0) 27 u = none := hu0
      have hut : u ≠ t := fun z => by rw [z] at hu1; unfold up2 at hu1; rw [if_pos ⟨rfl, rfl⟩] at hu1; cases hu1
      have hu2 : gr s.1 27 u = none := by unfold up2 at hu1; rw [if_neg (fun z => hut z.2)] at hu1; exact hu1
      have hn := (h.2.2.2.2.2.2.2.1 u hu hu2).2 p hp
      exact ⟨hu2, fun z => by rcases hin u z with z | z; exact hn z; exact hut z, hn⟩
  match hts : sr s p with
  | [] =>
    rw [hts] at fin x1 x2 hC
    refine gM_mono (c_Processor_put_0 X l g p t kp kt hC x1 x2) (fun r y hr => ?_)
    obtain ⟨rfl, rfl⟩ := hr
    refine ⟨_, ⟨rfl, rfl⟩, fin _ [] ((TSame.rfl'.s12 _).s13 _) (by simp [gSetI, gSetR, up2, gr]) (by simp [gSetI, gSetR, up2, gi]) (by simp) (fun _ h => h) List.nodup_nil ⟨kt, ?_, trivial⟩⟩
    simpa [gSetI, gSetR, up2, gr] using n1
  | [a] =>
    rw [hts] at fin x1 x2 hC nt
    have ta : t ≠ a := fun z => nt (by simp [z])
    refine gM_mono (c_Processor_put_1 X l g p t a kp kt hC x1 x2) (fun r y hr => ?_)
    obtain ⟨rfl, rfl⟩ := hr
    refine ⟨_, ⟨rfl, rfl⟩, fin _ [a] ((TSame.rfl'.s27 (by simp) _).s13 _) (by simpa [gSetI, gSetR, up2, gr] using x1) (by simp [gSetI, gSetR, up2, gi]) (by simp) (fun _ h => h) (by simp) ⟨hC.1, ?_, kt, ?_, trivial⟩⟩
    · simp [gSetI, gSetR, up2, gr]
    · simpa [gSetI, gSetR, up2, gr, ta] using n1
  | [a, b] =>
    rw [hts] at fin x1 x2 x4 hC nt
    have ta : t ≠ a := fun z => nt (by simp [z])
    have tb : t ≠ b := fun z => nt (by simp [z])
    have ab : a ≠ b := by simpa using x4
    refine gM_mono (c_Processor_put_2 X l g p t a b kp kt hC x1 x2) (fun r y hr => ?_)
    obtain ⟨rfl, rfl⟩ := hr
    refine ⟨_, ⟨rfl, rfl⟩, fin _ [a, b] ((TSame.rfl'.s27 (by simp) _).s13 _) (by simpa [gSetI, gSetR, up2, gr] using x1) (by simp [gSetI, gSetR, up2, gi]) (by simp) (fun _ h => h) (by simpa using ab) ⟨hC.1, ?_, hC.2.2.1, ?_, kt, ?_, trivial⟩⟩
    · simpa [gSetI, gSetR, up2, gr, ab] using hC.2.1
    · simp [gSetI, gSetR, up2, gr]
    · simpa [gSetI, gSetR, up2, gr, tb] using n1
  | [a, b, c] =>
    rw [hts] at fin x1 x2 x4 hC nt
    have tb : t ≠ b := fun z => nt (by simp [z])
    have tc : t ≠ c := fun z => nt (by simp [z])
    have bc : b ≠ c := by
      intro z; subst z; simp at x4
    refine gM_mono (c_Processor_put_3 X l g p t a b c kp kt hC x1 x2) (fun r y hr => ?_)
    obtain ⟨rfl, rfl⟩ := hr
    refine ⟨_, ⟨rfl, rfl⟩, fin _ [b, c] ((((TSame.rfl'.s12 _).s13 _).s27 (by simp) _).s13 _) (by simp [gSetI, gSetR, up2, gr]) (by simp [gSetI, gSetR, up2, gi]) (by simp) (fun u h => by simp at h ⊢; omega) (by simpa using bc) ⟨hC.2.2.1, ?_, hC.2.2.2.2.1, ?_, kt, ?_, trivial⟩⟩
    · simpa [gSetI, gSetR, up2, gr, bc] using hC.2.2.2.1
    · simp [gSetI, gSetR, up2, gr]
    · simpa [gSetI, gSetR, up2, gr, tc] using n1
  | a :: b :: c :: d :: e => rw [hts] at x3; simp at x3
end LIFT
