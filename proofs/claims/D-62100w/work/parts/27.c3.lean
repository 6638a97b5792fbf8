/-- a chain of translations -/
def Ch (g : gG) : List Nat → Prop
  | [] => True
  | t :: us => gk g t = 6 ∧ gr g 27 t = us.head? ∧ Ch g us
theorem Ch.mem {g : gG} : ∀ {us : List Nat}, Ch g us → ∀ {t : Nat}, t ∈ us → gk g t = 6
  | _ :: _, h, t, ht => by
    rcases List.mem_cons.mp ht with rfl | h2
    · exact h.1
    · exact h.2.2.mem h2
theorem Ch.right {g : gG} : ∀ {ks us : List Nat}, Ch g (ks ++ us) → Ch g us
  | [], _, h => h
  | _ :: _, _, h => Ch.right h.2.2
theorem Ch.kept {g g' : gG} : ∀ {us : List Nat}, Ch g us → gk g' = gk g → (∀ t ∈ us, gr g' 27 t = gr g 27 t) → Ch g' us
  | [], _, _, _ => trivial
  | t :: us, h, hk, hr => ⟨by rw [hk]; exact h.1, (hr t List.mem_cons_self).trans h.2.1, h.2.2.kept hk (fun u hu => hr u (List.mem_cons_of_mem _ hu))⟩
/-- out with the one behind ks -/
theorem Ch.cut {g g' : gG} : ∀ {ks : List Nat} {k t : Nat} {vs : List Nat}, Ch g (ks ++ t :: vs) → (ks ++ t :: vs).Nodup → ks.getLast? = some k → gk g' = gk g → gr g' 27 k = vs.head? → (∀ u, u ≠ k → gr g' 27 u = gr g 27 u) → Ch g' (ks ++ vs)
  | [], _, _, _, _, _, hl, _, _, _ => by cases hl
  | [a], k, t, vs, h, hn, hl, hk, h1, h2 => by
    have : a = k := by simpa using hl
    subst this
    have hn2 := List.nodup_cons.mp hn
    exact ⟨by rw [hk]; exact h.1, h1, h.2.2.2.2.kept hk (fun u hu => h2 u (fun z => hn2.1 (by rw [← z]; exact List.mem_cons_of_mem _ hu)))⟩
  | a :: b :: ks, k, t, vs, h, hn, hl, hk, h1, h2 => by
    have hl' : (b :: ks).getLast? = some k := by simpa using hl
    have hn2 := List.nodup_cons.mp hn
    have hak : a ≠ k := fun z => hn2.1 (by rw [z]; exact List.mem_append_left _ (List.mem_of_getLast? hl'))
    exact ⟨by rw [hk]; exact h.1, by rw [h2 a hak]; exact h.2.1, Ch.cut (ks := b :: ks) h.2.2 hn2.2 hl' hk h1 h2⟩
theorem Ch.at {g : gG} : ∀ {us : List Nat}, Ch g us → ∀ (i t : Nat), us[i]? = some t → gr g 27 t = us[i + 1]?
  | [], _, i, t, h => by simp at h
  | a :: us, h, 0, t, e => by
    have : a = t := by simpa using e
    subst this
    rw [h.2.1, List.head?_eq_getElem?]
    simp
  | a :: us, h, i + 1, t, e => by
    have := h.2.2.at i t (by simpa using e)
    simpa using this
theorem Ch.of {g : gG} : ∀ {us : List Nat}, (∀ t ∈ us, gk g t = 6) → (∀ (i t : Nat), us[i]? = some t → gr g 27 t = us[i + 1]?) → Ch g us
  | [], _, _ => trivial
  | a :: us, h1, h2 => ⟨h1 a List.mem_cons_self, by have := h2 0 a (by simp); rw [List.head?_eq_getElem?]; simpa using this, Ch.of (fun t ht => h1 t (List.mem_cons_of_mem _ ht)) (fun i t e => by have := h2 (i + 1) t (by simpa using e); simpa using this)⟩
/-- what a change of the chain of p leaves alone -/
def TSame (p : Nat) (us : List Nat) (g g' : gG) : Prop :=
  gx g' = gx g ∧ gk g' = gk g ∧ gl g' = gl g ∧ ga g' = ga g ∧ gb g' = gb g ∧ (∀ f a, ¬(f = 13 ∧ a = p) → gi g' f a = gi g f a) ∧ ∀ f a, ¬(f = 12 ∧ a = p) → ¬(f = 27 ∧ a ∈ us) → gr g' f a = gr g f a
theorem TSame.rfl' {p : Nat} {us : List Nat} {g : gG} : TSame p us g g := ⟨rfl, rfl, rfl, rfl, rfl, fun _ _ _ => rfl, fun _ _ _ _ => rfl⟩
theorem TSame.s13 {p : Nat} {us : List Nat} {g g' : gG} (h : TSame p us g g') (v : Int32) : TSame p us g (gSetI g' 13 p v) := by
  obtain ⟨h1, h2, h3, h4, h5, h6, h7⟩ := h
  refine ⟨h1, h2, h3, h4, h5, fun f a hf => ?_, h7⟩
  show up2 (gi g') 13 p v f a = _
  unfold up2
  rw [if_neg hf]
  exact h6 f a hf
theorem TSame.s12 {p : Nat} {us : List Nat} {g g' : gG} (h : TSame p us g g') (v : Option Nat) : TSame p us g (gSetR g' 12 p v) := by
  obtain ⟨h1, h2, h3, h4, h5, h6, h7⟩ := h
  refine ⟨h1, h2, h3, h4, h5, h6, fun f a hf hg => ?_⟩
  show up2 (gr g') 12 p v f a = _
  unfold up2
  rw [if_neg hf]
  exact h7 f a hf hg
theorem TSame.s27 {p t : Nat} {us : List Nat} {g g' : gG} (h : TSame p us g g') (ht : t ∈ us) (v : Option Nat) : TSame p us g (gSetR g' 27 t v) := by
  obtain ⟨h1, h2, h3, h4, h5, h6, h7⟩ := h
  refine ⟨h1, h2, h3, h4, h5, h6, fun f a hf hg => ?_⟩
  show up2 (gr g') 27 t v f a = _
  unfold up2
  rw [if_neg (fun z => hg ⟨z.1, by rw [z.2]; exact ht⟩)]
  exact h7 f a hf hg
set_option maxHeartbeats 1000000 in
theorem c_Processor_find (X : gCx) (l : Launch) (g : gG) (p : Nat) (pg : Int32) (ts : List Nat) (hp : gk g p = 3) (hC : Ch g ts) (he : gr g 12 p = ts.head?) : gMr X l (HoldP X eqG) M_Processor_find 0 0 0 [.ref p, .int pg] g (ts.find? (fun t => decide (gi g 24 t = pg))) g := by
  refine gM_intro (by decide) (Nat.le_of_ble_eq_true rfl) (fun K hK => ?_)
  have key : ∀ (us : List Nat), Ch g us → us.find? (fun t => decide (gi g 24 t = pg)) = ts.find? (fun t => decide (gi g 24 t = pg)) → K 5 [(0, .ref p), (1, .int pg), (2, va_rf us.head?)] [] g 0 0 := by
    intro us
    induction us with
    | nil =>
      intro _ hf
      show K 5 [(0, .ref p), (1, .int pg), (2, .null)] [] g 0 0
      refine r_aload_nN hK d_Processor_find_5 rfl 2 rfl ?_
      refine r_ifnull (v := none) (tgt := 27) hK d_Processor_find_6 (by decide) (fun _ => ?_) (fun _ z => absurd z (by simp))
      refine r_null hK d_Processor_find_27 ?_
      refine r_aret (v := none) hK d_Processor_find_28 rfl (Or.inl ⟨_, rfl⟩) ?_
      exact ⟨by rw [← hf]; rfl, rfl⟩
    | cons t us ih =>
      intro hC hf
      show K 5 [(0, .ref p), (1, .int pg), (2, .ref t)] [] g 0 0
      refine r_aload_n hK d_Processor_find_5 rfl 2 rfl ?_
      refine r_ifnull (v := some t) (tgt := 27) hK d_Processor_find_6 (by decide) (fun z => absurd z (by simp)) (fun _ _ => ?_)
      refine r_aload_n hK d_Processor_find_9 rfl 2 rfl ?_
      refine p_getI (f := 24) (v := gi g 24 t) hK d_Processor_find_10 k_Translation fd_Processor_33_Translation (by decide) rfl rfl (by rintro g rfl; exact ⟨hC.1, rfl⟩) ?_
      refine r_iload_n hK d_Processor_find_13 rfl 1 rfl ?_
      refine r_icmp_ne (tgt := 19) hK d_Processor_find_14 (by decide) (fun c14 => ?_) (fun c14 => ?_)
      · refine r_aload_n hK d_Processor_find_19 rfl 2 rfl ?_
        refine p_getR (f := 27) (v := us.head?) hK d_Processor_find_20 k_Translation fd_Processor_38_Translation (by decide) rfl rfl (by rintro g rfl; exact ⟨hC.1, hC.2.1⟩) ?_
        refine r_astore_nQ (lv' := [(2, va_rf (us.head?)), (0, .ref p), (1, .int pg)]) hK d_Processor_find_23 rfl (by decide) (by rw [flt_ok _ _ (by simp [va_rf_cat, cat_i, cat_r, cat_n])]; rfl) ?_
        refine r_goto (tgt := 5) hK d_Processor_find_24 (by decide) ?_
        exact r_loc hK [1, 2, 0] rfl (ih hC.2.2 (by simpa [List.find?, c14] using hf))
      · refine r_aload_n hK d_Processor_find_17 rfl 2 rfl ?_
        refine r_aret (v := some t) hK d_Processor_find_18 rfl (Or.inl ⟨_, rfl⟩) ?_
        exact ⟨by rw [← hf]; simp [List.find?, c14], rfl⟩
  show K 0 [(0, .ref p), (1, .int pg)] [] g 0 0
  refine r_aload_n hK d_Processor_find_0 rfl 0 rfl ?_
  refine p_getR (f := 12) (v := ts.head?) hK d_Processor_find_1 k_Processor fd_Processor_29_Processor (by decide) rfl rfl (by rintro g rfl; exact ⟨hp, he⟩) ?_
  refine r_astore_nQ (lv' := [(2, va_rf (ts.head?)), (0, .ref p), (1, .int pg)]) hK d_Processor_find_4 rfl (by decide) (by rw [flt_ok _ _ (by simp [va_rf_cat, cat_i, cat_r, cat_n])]; rfl) ?_
  exact r_loc hK [1, 2, 0] rfl (key ts hC rfl)
set_option maxHeartbeats 2000000 in
theorem c_Processor_drop (X : gCx) (l : Launch) (g0 : gG) (p fr n : Nat) (pg : Nat → Nat) (ts : List Nat) (hp0 : gk g0 p = 3) (hC0 : Ch g0 ts) (he0 : gr g0 12 p = ts.head?) (hs0 : gi g0 13 p = nI ts.length) (hn0 : ts.Nodup) (hpg : ∀ t ∈ ts, gi g0 24 t = nI (pg t) ∧ pg t < 100) (hfr : fr < 100) (hn : n < 100) : gM X l (HoldP X eqG) M_Processor_drop 0 0 0 [.ref p, .int (nI fr), .int (nI n)] g0 (fun r g => r = none ∧ TSame p ts g0 g ∧ Ch g (ts.filter (fun t => !decide (fr ≤ pg t ∧ pg t < fr + n))) ∧ gr g 12 p = (ts.filter (fun t => !decide (fr ≤ pg t ∧ pg t < fr + n))).head? ∧ gi g 13 p = nI (ts.filter (fun t => !decide (fr ≤ pg t ∧ pg t < fr + n))).length) := by
  generalize kp : (fun t => !decide (fr ≤ pg t ∧ pg t < fr + n)) = keep
  refine gM_intro (by decide) (Nat.le_of_ble_eq_true rfl) (fun K hK => ?_)
  have hPo : ∀ (g : gG) (us : List Nat), TSame p ts g0 g → Ch g us → gr g 12 p = us.head? → gi g 13 p = nI us.length → us = ts.filter keep → (fun r g => r = none ∧ TSame p ts g0 g ∧ Ch g (ts.filter keep) ∧ gr g 12 p = (ts.filter keep).head? ∧ gi g 13 p = nI (ts.filter keep).length) (none : Option Value) g := fun g us h1 h2 h3 h4 h5 => by subst h5; exact ⟨rfl, h1, h2, h3, h4⟩
  have key : ∀ (us ks : List Nat) (g : gG), gk g p = 3 → Ch g (ks ++ us) → gr g 12 p = (ks ++ us).head? → gi g 13 p = nI (ks ++ us).length → TSame p ts g0 g → (ks ++ us).Nodup → (∀ u ∈ ks ++ us, u ∈ ts) → ks ++ us.filter keep = ts.filter keep → K 8 [(0, .ref p), (1, .int (nI fr)), (2, .int (nI n)), (3, va_rf ks.getLast?), (4, va_rf us.head?)] [] g 0 0 := by
    intro us
    induction us with
    | nil =>
      intro ks g hp hC hh hsz hS hnd hin hfl
      rw [List.append_nil] at hC hh hsz
      show K 8 [(0, .ref p), (1, .int (nI fr)), (2, .int (nI n)), (3, va_rf ks.getLast?), (4, .null)] [] g 0 0
      refine r_aloadN hK d_Processor_drop_8 4 rfl ?_
      refine r_ifnull (v := none) (tgt := 94) hK d_Processor_drop_10 (by decide) (fun _ => ?_) (fun _ z => absurd z (by simp))
      refine r_vret hK d_Processor_drop_94 rfl ?_
      exact hPo _ _ hS hC (by simpa using hh) (by simpa using hsz) (by simpa using hfl)
    | cons t vs ih =>
      intro ks g hp hC hh hsz hS hnd hin hfl
      obtain ⟨hpgt, hpgl⟩ := hpg t (hin t (List.mem_append_right _ List.mem_cons_self))
      have hpg0 : gi g 24 t = nI (pg t) := (hS.2.2.2.2.2.1 24 t (by omega)).trans hpgt
      have hsz1 : gi g 13 p = nI (ks.length + vs.length + 1) := by rw [hsz]; congr 1; simp; omega
      show K 8 [(0, .ref p), (1, .int (nI fr)), (2, .int (nI n)), (3, va_rf ks.getLast?), (4, .ref t)] [] g 0 0
      refine r_aload hK d_Processor_drop_8 4 rfl ?_
      refine r_ifnull (v := some t) (tgt := 94) hK d_Processor_drop_10 (by decide) (fun z => absurd z (by simp)) (fun _ _ => ?_)
      refine r_aload hK d_Processor_drop_13 4 rfl ?_
      refine p_getI (f := 24) (v := nI (pg t)) hK d_Processor_drop_15 k_Translation fd_Processor_33_Translation (by decide) rfl rfl (by rintro g rfl; exact ⟨hC.right.1, hpg0⟩) ?_
      refine r_iload_n hK d_Processor_drop_18 rfl 1 rfl ?_
      refine r_ncmp_lt (a := pg t) (b := fr) (tgt := 37) hK d_Processor_drop_19 (by decide) (by omega) (by omega) (fun c19 => ?_) (fun c19 => ?_)
      · refine r_iconst (v := nI 0) hK d_Processor_drop_37 (by decide) ?_
        refine r_istore (lv' := [(5, .int (nI 0)), (0, .ref p), (1, .int (nI fr)), (2, .int (nI n)), (3, va_rf (ks.getLast?)), (4, .ref t)]) hK d_Processor_drop_38 (by decide) (by rw [flt_ok _ _ (by simp [va_rf_cat, cat_i, cat_r, cat_n])]; rfl) ?_
        refine r_aload hK d_Processor_drop_40 5 rfl ?_
        refine p_getR (f := 27) (v := vs.head?) hK d_Processor_drop_42 k_Translation fd_Processor_38_Translation (by decide) rfl rfl (by rintro g rfl; exact ⟨hC.right.1, hC.right.2.1⟩) ?_
        refine r_astoreQ (lv' := [(6, va_rf (vs.head?)), (5, .int (nI 0)), (0, .ref p), (1, .int (nI fr)), (2, .int (nI n)), (3, va_rf (ks.getLast?)), (4, .ref t)]) hK d_Processor_drop_45 (by decide) (by rw [flt_ok _ _ (by simp [va_rf_cat, cat_i, cat_r, cat_n])]; rfl) ?_
        refine r_iload hK d_Processor_drop_47 1 rfl ?_
        refine r_nif_ne (a := 0) (tgt := 58) hK d_Processor_drop_49 (by decide) (by decide) (fun z => absurd z (by decide)) (fun _ => ?_)
        refine r_aload hK d_Processor_drop_52 6 rfl ?_
        refine r_astore_n (lv' := [(3, .ref t), (6, va_rf (vs.head?)), (5, .int (nI 0)), (0, .ref p), (1, .int (nI fr)), (2, .int (nI n)), (4, .ref t)]) hK d_Processor_drop_54 rfl (by decide) (by rw [flt_ok _ _ (by simp [va_rf_cat, cat_i, cat_r, cat_n])]; rfl) ?_
        refine r_goto (tgt := 87) hK d_Processor_drop_55 (by decide) ?_
        refine r_aloadQ hK d_Processor_drop_87 1 rfl ?_
        refine r_astoreQ (lv' := [(4, va_rf (vs.head?)), (3, .ref t), (6, va_rf (vs.head?)), (5, .int (nI 0)), (0, .ref p), (1, .int (nI fr)), (2, .int (nI n))]) hK d_Processor_drop_89 (by decide) (by rw [flt_ok _ _ (by simp [va_rf_cat, cat_i, cat_r, cat_n])]; rfl) ?_
        refine r_goto (tgt := 8) hK d_Processor_drop_91 (by decide) ?_
        refine r_loc hK [4, 5, 6, 1, 0] rfl ?_
        have key := ih (ks ++ [t]) g hp (by simpa using hC) (by simpa using hh) (by rw [hsz]; congr 1; simp) hS (by simpa using hnd) (by simpa using hin) (by rw [← hfl, List.filter_cons_of_pos (by rw [← kp]; simp; omega)]; simp)
        rw [show (ks ++ [t]).getLast? = some t by simp] at key
        exact key
      · refine r_aload hK d_Processor_drop_22 4 rfl ?_
        refine p_getI (f := 24) (v := nI (pg t)) hK d_Processor_drop_24 k_Translation fd_Processor_33_Translation (by decide) rfl rfl (by rintro g rfl; exact ⟨hC.right.1, hpg0⟩) ?_
        refine r_iload_n hK d_Processor_drop_27 rfl 1 rfl ?_
        refine r_iload_n hK d_Processor_drop_28 rfl 2 rfl ?_
        refine r_iadd hK d_Processor_drop_29 ?_
        refine r_tp (b := nI (fr + n)) (nI_add _ _) ?_
        refine r_ncmp_ge (a := pg t) (b := fr + n) (tgt := 37) hK d_Processor_drop_30 (by decide) (by omega) (by omega) (fun c30 => ?_) (fun c30 => ?_)
        · refine r_iconst (v := nI 0) hK d_Processor_drop_37 (by decide) ?_
          refine r_istore (lv' := [(5, .int (nI 0)), (0, .ref p), (1, .int (nI fr)), (2, .int (nI n)), (3, va_rf (ks.getLast?)), (4, .ref t)]) hK d_Processor_drop_38 (by decide) (by rw [flt_ok _ _ (by simp [va_rf_cat, cat_i, cat_r, cat_n])]; rfl) ?_
          refine r_aload hK d_Processor_drop_40 5 rfl ?_
          refine p_getR (f := 27) (v := vs.head?) hK d_Processor_drop_42 k_Translation fd_Processor_38_Translation (by decide) rfl rfl (by rintro g rfl; exact ⟨hC.right.1, hC.right.2.1⟩) ?_
          refine r_astoreQ (lv' := [(6, va_rf (vs.head?)), (5, .int (nI 0)), (0, .ref p), (1, .int (nI fr)), (2, .int (nI n)), (3, va_rf (ks.getLast?)), (4, .ref t)]) hK d_Processor_drop_45 (by decide) (by rw [flt_ok _ _ (by simp [va_rf_cat, cat_i, cat_r, cat_n])]; rfl) ?_
          refine r_iload hK d_Processor_drop_47 1 rfl ?_
          refine r_nif_ne (a := 0) (tgt := 58) hK d_Processor_drop_49 (by decide) (by decide) (fun z => absurd z (by decide)) (fun _ => ?_)
          refine r_aload hK d_Processor_drop_52 6 rfl ?_
          refine r_astore_n (lv' := [(3, .ref t), (6, va_rf (vs.head?)), (5, .int (nI 0)), (0, .ref p), (1, .int (nI fr)), (2, .int (nI n)), (4, .ref t)]) hK d_Processor_drop_54 rfl (by decide) (by rw [flt_ok _ _ (by simp [va_rf_cat, cat_i, cat_r, cat_n])]; rfl) ?_
          refine r_goto (tgt := 87) hK d_Processor_drop_55 (by decide) ?_
          refine r_aloadQ hK d_Processor_drop_87 1 rfl ?_
          refine r_astoreQ (lv' := [(4, va_rf (vs.head?)), (3, .ref t), (6, va_rf (vs.head?)), (5, .int (nI 0)), (0, .ref p), (1, .int (nI fr)), (2, .int (nI n))]) hK d_Processor_drop_89 (by decide) (by rw [flt_ok _ _ (by simp [va_rf_cat, cat_i, cat_r, cat_n])]; rfl) ?_
          refine r_goto (tgt := 8) hK d_Processor_drop_91 (by decide) ?_
          refine r_loc hK [4, 5, 6, 1, 0] rfl ?_
          have key := ih (ks ++ [t]) g hp (by simpa using hC) (by simpa using hh) (by rw [hsz]; congr 1; simp) hS (by simpa using hnd) (by simpa using hin) (by rw [← hfl, List.filter_cons_of_pos (by rw [← kp]; simp; omega)]; simp)
          rw [show (ks ++ [t]).getLast? = some t by simp] at key
          exact key
        · refine r_iconst (v := nI 1) hK d_Processor_drop_33 (by decide) ?_
          refine r_goto (tgt := 38) hK d_Processor_drop_34 (by decide) ?_
          refine r_istore (lv' := [(5, .int (nI 1)), (0, .ref p), (1, .int (nI fr)), (2, .int (nI n)), (3, va_rf (ks.getLast?)), (4, .ref t)]) hK d_Processor_drop_38 (by decide) (by rw [flt_ok _ _ (by simp [va_rf_cat, cat_i, cat_r, cat_n])]; rfl) ?_
          refine r_aload hK d_Processor_drop_40 5 rfl ?_
          refine p_getR (f := 27) (v := vs.head?) hK d_Processor_drop_42 k_Translation fd_Processor_38_Translation (by decide) rfl rfl (by rintro g rfl; exact ⟨hC.right.1, hC.right.2.1⟩) ?_
          refine r_astoreQ (lv' := [(6, va_rf (vs.head?)), (5, .int (nI 1)), (0, .ref p), (1, .int (nI fr)), (2, .int (nI n)), (3, va_rf (ks.getLast?)), (4, .ref t)]) hK d_Processor_drop_45 (by decide) (by rw [flt_ok _ _ (by simp [va_rf_cat, cat_i, cat_r, cat_n])]; rfl) ?_
          refine r_iload hK d_Processor_drop_47 1 rfl ?_
          refine r_nif_ne (a := 1) (tgt := 58) hK d_Processor_drop_49 (by decide) (by decide) (fun _ => ?_) (fun z => absurd z (by decide))
          refine r_aload_n hK d_Processor_drop_58 rfl 2 rfl ?_
          refine r_dup hK d_Processor_drop_59 rfl ?_
          refine p_getI (f := 13) (v := nI (ks.length + vs.length + 1)) hK d_Processor_drop_60 k_Processor fd_Processor_41_Processor (by decide) rfl rfl (by rintro g rfl; exact ⟨hp, hsz1⟩) ?_
          refine r_iconst (v := nI 1) hK d_Processor_drop_63 (by decide) ?_
          refine r_isub hK d_Processor_drop_64 ?_
          refine r_tp (b := nI (ks.length + vs.length)) (nI_pred _) ?_
          refine p_putI (k := 2) (f := 13) hK d_Processor_drop_65 k_Processor fd_Processor_41_Processor (by decide) rfl rfl rfl rfl rfl (by rintro g rfl; exact ⟨hp, rfl⟩) ?_
          refine r_aload_nQ hK d_Processor_drop_68 rfl 5 rfl ?_
          refine r_ifnonnull (v := ks.getLast?) (tgt := 81) hK d_Processor_drop_69 (by decide) (fun b69 c69 => ?_) (fun c69 => ?_)
          · rw [c69]
            refine r_aload_n hK d_Processor_drop_81 rfl 5 rfl ?_
            refine r_aloadQ hK d_Processor_drop_82 0 rfl ?_
            refine p_putR (k := 3) (f := 27) (v := vs.head?) hK d_Processor_drop_84 k_Translation fd_Processor_38_Translation (by decide) rfl rfl rfl (by rintro g rfl; exact ⟨(hC.mem (List.mem_append_left _ (List.mem_of_getLast? c69))), rfl⟩) ?_
            refine r_aloadQ hK d_Processor_drop_87 0 rfl ?_
            refine r_astoreQ (lv' := [(4, va_rf (vs.head?)), (6, va_rf (vs.head?)), (5, .int (nI 1)), (0, .ref p), (1, .int (nI fr)), (2, .int (nI n)), (3, .ref b69)]) hK d_Processor_drop_89 (by decide) (by rw [flt_ok _ _ (by simp [va_rf_cat, cat_i, cat_r, cat_n])]; rfl) ?_
            refine r_goto (tgt := 8) hK d_Processor_drop_91 (by decide) ?_
            rw [show Value.ref b69 = va_rf ks.getLast? by rw [c69]; rfl]
            refine r_loc hK [3, 4, 5, 6, 0] rfl ?_
            have hkm : b69 ∈ ks := List.mem_of_getLast? c69
            have hk0 : ks ≠ [] := fun z => by rw [z] at hkm; cases hkm
            refine ih ks _ (by simp [gSetI, gSetR, gSetA, gSetB, gNew, gNewA, up2, up1, gx, gk, gl, gi, gr, ga, gb, hp]) (hC.cut hnd c69 rfl (by simp [gSetI, gSetR, gSetA, gSetB, gNew, gNewA, up2, up1, gx, gk, gl, gi, gr, ga, gb]) (fun u hu => by simp [gSetI, gSetR, gSetA, gSetB, gNew, gNewA, up2, up1, gx, gk, gl, gi, gr, ga, gb, hu])) ?_ (by simp [gSetI, gSetR, gSetA, gSetB, gNew, gNewA, up2, up1, gx, gk, gl, gi, gr, ga, gb]) ((hS.s13 _).s27 (hin _ (List.mem_append_left _ hkm)) _) (hnd.sublist (List.Sublist.append_left (List.sublist_cons_self _ _) _)) (fun u hu => hin u (by rcases List.mem_append.mp hu with h | h; exact List.mem_append_left _ h; exact List.mem_append_right _ (List.mem_cons_of_mem _ h))) (by rw [← hfl, List.filter_cons_of_neg (by rw [← kp]; simp; omega)])
            simp only [gSetI, gSetR, gSetA, gSetB, gNew, gNewA, up2, up1, gx, gk, gl, gi, gr, ga, gb] at hh ⊢
            cases ks with | nil => exact absurd rfl hk0 | cons a b => simpa using hh
          · rw [c69]
            refine r_aload_n hK d_Processor_drop_72 rfl 2 rfl ?_
            refine r_aloadQ hK d_Processor_drop_73 0 rfl ?_
            refine p_putR (k := 1) (f := 12) (v := vs.head?) hK d_Processor_drop_75 k_Processor fd_Processor_29_Processor (by decide) rfl rfl rfl (by rintro g rfl; exact ⟨hp, rfl⟩) ?_
            refine r_goto (tgt := 87) hK d_Processor_drop_78 (by decide) ?_
            refine r_aloadQ hK d_Processor_drop_87 0 rfl ?_
            refine r_astoreQ (lv' := [(4, va_rf (vs.head?)), (6, va_rf (vs.head?)), (5, .int (nI 1)), (0, .ref p), (1, .int (nI fr)), (2, .int (nI n)), (3, .null)]) hK d_Processor_drop_89 (by decide) (by rw [flt_ok _ _ (by simp [va_rf_cat, cat_i, cat_r, cat_n])]; rfl) ?_
            refine r_goto (tgt := 8) hK d_Processor_drop_91 (by decide) ?_
            have hk0 : ks = [] := by cases ks with | nil => rfl | cons a b => simp at c69
            subst hk0
            refine r_loc hK [3, 4, 5, 6, 0] rfl ?_
            exact ih [] _ (by simp [gSetI, gSetR, gSetA, gSetB, gNew, gNewA, up2, up1, gx, gk, gl, gi, gr, ga, gb, hp]) (hC.2.2.kept rfl (fun u _ => by simp [gSetI, gSetR, gSetA, gSetB, gNew, gNewA, up2, up1, gx, gk, gl, gi, gr, ga, gb])) (by simp [gSetI, gSetR, gSetA, gSetB, gNew, gNewA, up2, up1, gx, gk, gl, gi, gr, ga, gb]) (by simp [gSetI, gSetR, gSetA, gSetB, gNew, gNewA, up2, up1, gx, gk, gl, gi, gr, ga, gb]) ((hS.s13 _).s12 _) (List.nodup_cons.mp hnd).2 (fun u hu => hin u (List.mem_cons_of_mem _ hu)) (by rw [← hfl, List.filter_cons_of_neg (by rw [← kp]; simp; omega)])
  show K 0 [(0, .ref p), (1, .int (nI fr)), (2, .int (nI n))] [] g0 0 0
  refine r_null hK d_Processor_drop_0 ?_
  refine r_astore_nN (lv' := [(3, .null), (0, .ref p), (1, .int (nI fr)), (2, .int (nI n))]) hK d_Processor_drop_1 rfl (by decide) rfl ?_
  refine r_aload_n hK d_Processor_drop_2 rfl 1 rfl ?_
  refine p_getR (f := 12) (v := ts.head?) hK d_Processor_drop_3 k_Processor fd_Processor_29_Processor (by decide) rfl rfl (by rintro g rfl; exact ⟨hp0, he0⟩) ?_
  refine r_astoreQ (lv' := [(4, va_rf (ts.head?)), (3, .null), (0, .ref p), (1, .int (nI fr)), (2, .int (nI n))]) hK d_Processor_drop_6 (by decide) (by rw [flt_ok _ _ (by simp [va_rf_cat, cat_i, cat_r, cat_n])]; rfl) ?_
  exact r_loc hK [2, 3, 4, 1, 0] rfl (key ts [] g0 hp0 hC0 he0 hs0 TSame.rfl' hn0 (fun _ h => h) rfl)
set_option maxHeartbeats 1000000 in
theorem c_Processor_put_0 (X : gCx) (l : Launch) (g : gG) (p t : Nat) (hp : gk g p = 3) (ht : gk g t = 6) (hC : Ch g []) (he : gr g 12 p = none) (hs : gi g 13 p = nI 0) : gMv X l (HoldP X eqG) M_Processor_put 0 0 0 [.ref p, .ref t] g (gSetI (gSetR g 12 p (some t)) 13 p (nI 1)) := by
  refine gM_intro (by decide) (Nat.le_of_ble_eq_true rfl) (fun K hK => ?_)
  show K 0 [(0, .ref p), (1, .ref t)] [] g 0 0
  refine r_aload_n hK d_Processor_put_0 rfl 0 rfl ?_
  refine p_getI (f := 13) (v := nI 0) hK d_Processor_put_1 k_Processor fd_Processor_41_Processor (by decide) rfl rfl (by rintro g rfl; exact ⟨hp, hs⟩) ?_
  refine r_iconst (v := nI 3) hK d_Processor_put_4 (by decide) ?_
  refine r_ncmp_ne (a := 0) (b := 3) (tgt := 29) hK d_Processor_put_5 (by decide) (by decide) (by decide) (fun _ => ?_) (fun z => absurd z (by decide))
  refine r_aload_n hK d_Processor_put_29 rfl 0 rfl ?_
  refine p_getR (f := 12) (v := none) hK d_Processor_put_30 k_Processor fd_Processor_29_Processor (by decide) rfl rfl (by rintro g rfl; exact ⟨hp, he⟩) ?_
  refine r_ifnonnull (v := none) (tgt := 44) hK d_Processor_put_33 (by decide) (fun _ z => absurd z (by simp)) (fun _ => ?_)
  refine r_aload_n hK d_Processor_put_36 rfl 0 rfl ?_
  refine r_aload_n hK d_Processor_put_37 rfl 1 rfl ?_
  refine p_putR (k := 1) (f := 12) (v := some t) hK d_Processor_put_38 k_Processor fd_Processor_29_Processor (by decide) rfl rfl rfl (by rintro g rfl; exact ⟨hp, rfl⟩) ?_
  refine r_goto (tgt := 69) hK d_Processor_put_41 (by decide) ?_
  refine r_aload_n hK d_Processor_put_69 rfl 0 rfl ?_
  refine r_dup hK d_Processor_put_70 rfl ?_
  refine p_getI (f := 13) (v := nI 0) hK d_Processor_put_71 k_Processor fd_Processor_41_Processor (by decide) rfl rfl (by rintro g rfl; exact ⟨hp, (by simp [gSetI, gSetR, gSetA, gSetB, gNew, gNewA, up2, up1, gx, gk, gl, gi, gr, ga, gb, hs])⟩) ?_
  refine r_iconst (v := nI 1) hK d_Processor_put_74 (by decide) ?_
  refine r_iadd hK d_Processor_put_75 ?_
  refine r_tp (b := nI 1) (rfl) ?_
  refine p_putI (k := 2) (f := 13) hK d_Processor_put_76 k_Processor fd_Processor_41_Processor (by decide) rfl rfl rfl rfl rfl (by rintro g rfl; exact ⟨hp, rfl⟩) ?_
  refine r_vret hK d_Processor_put_79 rfl ?_
  exact ⟨rfl, rfl⟩
set_option maxHeartbeats 1000000 in
theorem c_Processor_put_1 (X : gCx) (l : Launch) (g : gG) (p t a : Nat) (hp : gk g p = 3) (ht : gk g t = 6) (hC : Ch g [a]) (he : gr g 12 p = some a) (hs : gi g 13 p = nI 1) : gMv X l (HoldP X eqG) M_Processor_put 0 0 0 [.ref p, .ref t] g (gSetI (gSetR g 27 a (some t)) 13 p (nI 2)) := by
  refine gM_intro (by decide) (Nat.le_of_ble_eq_true rfl) (fun K hK => ?_)
  show K 0 [(0, .ref p), (1, .ref t)] [] g 0 0
  refine r_aload_n hK d_Processor_put_0 rfl 0 rfl ?_
  refine p_getI (f := 13) (v := nI 1) hK d_Processor_put_1 k_Processor fd_Processor_41_Processor (by decide) rfl rfl (by rintro g rfl; exact ⟨hp, hs⟩) ?_
  refine r_iconst (v := nI 3) hK d_Processor_put_4 (by decide) ?_
  refine r_ncmp_ne (a := 1) (b := 3) (tgt := 29) hK d_Processor_put_5 (by decide) (by decide) (by decide) (fun _ => ?_) (fun z => absurd z (by decide))
  refine r_aload_n hK d_Processor_put_29 rfl 0 rfl ?_
  refine p_getR (f := 12) (v := some a) hK d_Processor_put_30 k_Processor fd_Processor_29_Processor (by decide) rfl rfl (by rintro g rfl; exact ⟨hp, he⟩) ?_
  refine r_ifnonnull (v := some a) (tgt := 44) hK d_Processor_put_33 (by decide) (fun _ _ => ?_) (fun z => absurd z (by simp))
  refine r_aload_n hK d_Processor_put_44 rfl 0 rfl ?_
  refine p_getR (f := 12) (v := some a) hK d_Processor_put_45 k_Processor fd_Processor_29_Processor (by decide) rfl rfl (by rintro g rfl; exact ⟨hp, he⟩) ?_
  refine r_astore_n (lv' := [(2, .ref a), (0, .ref p), (1, .ref t)]) hK d_Processor_put_48 rfl (by decide) rfl ?_
  refine r_aload_n hK d_Processor_put_49 rfl 0 rfl ?_
  refine p_getR (f := 27) (v := none) hK d_Processor_put_50 k_Translation fd_Processor_38_Translation (by decide) rfl rfl (by rintro g rfl; exact ⟨hC.1, hC.2.1⟩) ?_
  refine r_ifnull (v := none) (tgt := 64) hK d_Processor_put_53 (by decide) (fun _ => ?_) (fun _ z => absurd z (by simp))
  refine r_aload_n hK d_Processor_put_64 rfl 0 rfl ?_
  refine r_aload_n hK d_Processor_put_65 rfl 2 rfl ?_
  refine p_putR (k := 3) (f := 27) (v := some t) hK d_Processor_put_66 k_Translation fd_Processor_38_Translation (by decide) rfl rfl rfl (by rintro g rfl; exact ⟨hC.1, rfl⟩) ?_
  refine r_aload_n hK d_Processor_put_69 rfl 1 rfl ?_
  refine r_dup hK d_Processor_put_70 rfl ?_
  refine p_getI (f := 13) (v := nI 1) hK d_Processor_put_71 k_Processor fd_Processor_41_Processor (by decide) rfl rfl (by rintro g rfl; exact ⟨hp, (by simp [gSetI, gSetR, gSetA, gSetB, gNew, gNewA, up2, up1, gx, gk, gl, gi, gr, ga, gb, hs])⟩) ?_
  refine r_iconst (v := nI 1) hK d_Processor_put_74 (by decide) ?_
  refine r_iadd hK d_Processor_put_75 ?_
  refine r_tp (b := nI 2) (rfl) ?_
  refine p_putI (k := 2) (f := 13) hK d_Processor_put_76 k_Processor fd_Processor_41_Processor (by decide) rfl rfl rfl rfl rfl (by rintro g rfl; exact ⟨hp, rfl⟩) ?_
  refine r_vret hK d_Processor_put_79 rfl ?_
  exact ⟨rfl, rfl⟩
set_option maxHeartbeats 1000000 in
theorem c_Processor_put_2 (X : gCx) (l : Launch) (g : gG) (p t a b : Nat) (hp : gk g p = 3) (ht : gk g t = 6) (hC : Ch g [a, b]) (he : gr g 12 p = some a) (hs : gi g 13 p = nI 2) : gMv X l (HoldP X eqG) M_Processor_put 0 0 0 [.ref p, .ref t] g (gSetI (gSetR g 27 b (some t)) 13 p (nI 3)) := by
  refine gM_intro (by decide) (Nat.le_of_ble_eq_true rfl) (fun K hK => ?_)
  show K 0 [(0, .ref p), (1, .ref t)] [] g 0 0
  refine r_aload_n hK d_Processor_put_0 rfl 0 rfl ?_
  refine p_getI (f := 13) (v := nI 2) hK d_Processor_put_1 k_Processor fd_Processor_41_Processor (by decide) rfl rfl (by rintro g rfl; exact ⟨hp, hs⟩) ?_
  refine r_iconst (v := nI 3) hK d_Processor_put_4 (by decide) ?_
  refine r_ncmp_ne (a := 2) (b := 3) (tgt := 29) hK d_Processor_put_5 (by decide) (by decide) (by decide) (fun _ => ?_) (fun z => absurd z (by decide))
  refine r_aload_n hK d_Processor_put_29 rfl 0 rfl ?_
  refine p_getR (f := 12) (v := some a) hK d_Processor_put_30 k_Processor fd_Processor_29_Processor (by decide) rfl rfl (by rintro g rfl; exact ⟨hp, he⟩) ?_
  refine r_ifnonnull (v := some a) (tgt := 44) hK d_Processor_put_33 (by decide) (fun _ _ => ?_) (fun z => absurd z (by simp))
  refine r_aload_n hK d_Processor_put_44 rfl 0 rfl ?_
  refine p_getR (f := 12) (v := some a) hK d_Processor_put_45 k_Processor fd_Processor_29_Processor (by decide) rfl rfl (by rintro g rfl; exact ⟨hp, he⟩) ?_
  refine r_astore_n (lv' := [(2, .ref a), (0, .ref p), (1, .ref t)]) hK d_Processor_put_48 rfl (by decide) rfl ?_
  refine r_aload_n hK d_Processor_put_49 rfl 0 rfl ?_
  refine p_getR (f := 27) (v := some b) hK d_Processor_put_50 k_Translation fd_Processor_38_Translation (by decide) rfl rfl (by rintro g rfl; exact ⟨hC.1, hC.2.1⟩) ?_
  refine r_ifnull (v := some b) (tgt := 64) hK d_Processor_put_53 (by decide) (fun z => absurd z (by simp)) (fun _ _ => ?_)
  refine r_aload_n hK d_Processor_put_56 rfl 0 rfl ?_
  refine p_getR (f := 27) (v := some b) hK d_Processor_put_57 k_Translation fd_Processor_38_Translation (by decide) rfl rfl (by rintro g rfl; exact ⟨hC.1, hC.2.1⟩) ?_
  refine r_astore_n (lv' := [(2, .ref b), (0, .ref p), (1, .ref t)]) hK d_Processor_put_60 rfl (by decide) rfl ?_
  refine r_goto (tgt := 49) hK d_Processor_put_61 (by decide) ?_
  refine r_aload_n hK d_Processor_put_49 rfl 0 rfl ?_
  refine p_getR (f := 27) (v := none) hK d_Processor_put_50 k_Translation fd_Processor_38_Translation (by decide) rfl rfl (by rintro g rfl; exact ⟨hC.2.2.1, hC.2.2.2.1⟩) ?_
  refine r_ifnull (v := none) (tgt := 64) hK d_Processor_put_53 (by decide) (fun _ => ?_) (fun _ z => absurd z (by simp))
  refine r_aload_n hK d_Processor_put_64 rfl 0 rfl ?_
  refine r_aload_n hK d_Processor_put_65 rfl 2 rfl ?_
  refine p_putR (k := 3) (f := 27) (v := some t) hK d_Processor_put_66 k_Translation fd_Processor_38_Translation (by decide) rfl rfl rfl (by rintro g rfl; exact ⟨hC.2.2.1, rfl⟩) ?_
  refine r_aload_n hK d_Processor_put_69 rfl 1 rfl ?_
  refine r_dup hK d_Processor_put_70 rfl ?_
  refine p_getI (f := 13) (v := nI 2) hK d_Processor_put_71 k_Processor fd_Processor_41_Processor (by decide) rfl rfl (by rintro g rfl; exact ⟨hp, (by simp [gSetI, gSetR, gSetA, gSetB, gNew, gNewA, up2, up1, gx, gk, gl, gi, gr, ga, gb, hs])⟩) ?_
  refine r_iconst (v := nI 1) hK d_Processor_put_74 (by decide) ?_
  refine r_iadd hK d_Processor_put_75 ?_
  refine r_tp (b := nI 3) (rfl) ?_
  refine p_putI (k := 2) (f := 13) hK d_Processor_put_76 k_Processor fd_Processor_41_Processor (by decide) rfl rfl rfl rfl rfl (by rintro g rfl; exact ⟨hp, rfl⟩) ?_
  refine r_vret hK d_Processor_put_79 rfl ?_
  exact ⟨rfl, rfl⟩
set_option maxHeartbeats 1000000 in
theorem c_Processor_put_3 (X : gCx) (l : Launch) (g : gG) (p t a b c : Nat) (hp : gk g p = 3) (ht : gk g t = 6) (hC : Ch g [a, b, c]) (he : gr g 12 p = some a) (hs : gi g 13 p = nI 3) : gMv X l (HoldP X eqG) M_Processor_put 0 0 0 [.ref p, .ref t] g (gSetI (gSetR (gSetI (gSetR g 12 p (some b)) 13 p (nI 2)) 27 c (some t)) 13 p (nI 3)) := by
  refine gM_intro (by decide) (Nat.le_of_ble_eq_true rfl) (fun K hK => ?_)
  show K 0 [(0, .ref p), (1, .ref t)] [] g 0 0
  refine r_aload_n hK d_Processor_put_0 rfl 0 rfl ?_
  refine p_getI (f := 13) (v := nI 3) hK d_Processor_put_1 k_Processor fd_Processor_41_Processor (by decide) rfl rfl (by rintro g rfl; exact ⟨hp, hs⟩) ?_
  refine r_iconst (v := nI 3) hK d_Processor_put_4 (by decide) ?_
  refine r_ncmp_ne (a := 3) (b := 3) (tgt := 29) hK d_Processor_put_5 (by decide) (by decide) (by decide) (fun z => absurd z (by decide)) (fun _ => ?_)
  refine r_aload_n hK d_Processor_put_8 rfl 0 rfl ?_
  refine r_aload_n hK d_Processor_put_9 rfl 0 rfl ?_
  refine p_getR (f := 12) (v := some a) hK d_Processor_put_10 k_Processor fd_Processor_29_Processor (by decide) rfl rfl (by rintro g rfl; exact ⟨hp, he⟩) ?_
  refine p_getR (f := 27) (v := some b) hK d_Processor_put_13 k_Translation fd_Processor_38_Translation (by decide) rfl rfl (by rintro g rfl; exact ⟨hC.1, hC.2.1⟩) ?_
  refine p_putR (k := 1) (f := 12) (v := some b) hK d_Processor_put_16 k_Processor fd_Processor_29_Processor (by decide) rfl rfl rfl (by rintro g rfl; exact ⟨hp, rfl⟩) ?_
  refine r_aload_n hK d_Processor_put_19 rfl 0 rfl ?_
  refine r_dup hK d_Processor_put_20 rfl ?_
  refine p_getI (f := 13) (v := nI 3) hK d_Processor_put_21 k_Processor fd_Processor_41_Processor (by decide) rfl rfl (by rintro g rfl; exact ⟨hp, (by simp [gSetI, gSetR, gSetA, gSetB, gNew, gNewA, up2, up1, gx, gk, gl, gi, gr, ga, gb, hs])⟩) ?_
  refine r_iconst (v := nI 1) hK d_Processor_put_24 (by decide) ?_
  refine r_isub hK d_Processor_put_25 ?_
  refine r_tp (b := nI 2) (rfl) ?_
  refine p_putI (k := 2) (f := 13) hK d_Processor_put_26 k_Processor fd_Processor_41_Processor (by decide) rfl rfl rfl rfl rfl (by rintro g rfl; exact ⟨hp, rfl⟩) ?_
  refine r_aload_n hK d_Processor_put_29 rfl 0 rfl ?_
  refine p_getR (f := 12) (v := some b) hK d_Processor_put_30 k_Processor fd_Processor_29_Processor (by decide) rfl rfl (by rintro g rfl; exact ⟨hp, (by simp [gSetI, gSetR, gSetA, gSetB, gNew, gNewA, up2, up1, gx, gk, gl, gi, gr, ga, gb])⟩) ?_
  refine r_ifnonnull (v := some b) (tgt := 44) hK d_Processor_put_33 (by decide) (fun _ _ => ?_) (fun z => absurd z (by simp))
  refine r_aload_n hK d_Processor_put_44 rfl 0 rfl ?_
  refine p_getR (f := 12) (v := some b) hK d_Processor_put_45 k_Processor fd_Processor_29_Processor (by decide) rfl rfl (by rintro g rfl; exact ⟨hp, (by simp [gSetI, gSetR, gSetA, gSetB, gNew, gNewA, up2, up1, gx, gk, gl, gi, gr, ga, gb])⟩) ?_
  refine r_astore_n (lv' := [(2, .ref b), (0, .ref p), (1, .ref t)]) hK d_Processor_put_48 rfl (by decide) rfl ?_
  refine r_aload_n hK d_Processor_put_49 rfl 0 rfl ?_
  refine p_getR (f := 27) (v := some c) hK d_Processor_put_50 k_Translation fd_Processor_38_Translation (by decide) rfl rfl (by rintro g rfl; exact ⟨hC.2.2.1, (by simp [gSetI, gSetR, gSetA, gSetB, gNew, gNewA, up2, up1, gx, gk, gl, gi, gr, ga, gb, hC.2.2.2.1])⟩) ?_
  refine r_ifnull (v := some c) (tgt := 64) hK d_Processor_put_53 (by decide) (fun z => absurd z (by simp)) (fun _ _ => ?_)
  refine r_aload_n hK d_Processor_put_56 rfl 0 rfl ?_
  refine p_getR (f := 27) (v := some c) hK d_Processor_put_57 k_Translation fd_Processor_38_Translation (by decide) rfl rfl (by rintro g rfl; exact ⟨hC.2.2.1, (by simp [gSetI, gSetR, gSetA, gSetB, gNew, gNewA, up2, up1, gx, gk, gl, gi, gr, ga, gb, hC.2.2.2.1])⟩) ?_
  refine r_astore_n (lv' := [(2, .ref c), (0, .ref p), (1, .ref t)]) hK d_Processor_put_60 rfl (by decide) rfl ?_
  refine r_goto (tgt := 49) hK d_Processor_put_61 (by decide) ?_
  refine r_aload_n hK d_Processor_put_49 rfl 0 rfl ?_
  refine p_getR (f := 27) (v := none) hK d_Processor_put_50 k_Translation fd_Processor_38_Translation (by decide) rfl rfl (by rintro g rfl; exact ⟨hC.2.2.2.2.1, (by simp [gSetI, gSetR, gSetA, gSetB, gNew, gNewA, up2, up1, gx, gk, gl, gi, gr, ga, gb, hC.2.2.2.2.2.1])⟩) ?_
  refine r_ifnull (v := none) (tgt := 64) hK d_Processor_put_53 (by decide) (fun _ => ?_) (fun _ z => absurd z (by simp))
  refine r_aload_n hK d_Processor_put_64 rfl 0 rfl ?_
  refine r_aload_n hK d_Processor_put_65 rfl 2 rfl ?_
  refine p_putR (k := 3) (f := 27) (v := some t) hK d_Processor_put_66 k_Translation fd_Processor_38_Translation (by decide) rfl rfl rfl (by rintro g rfl; exact ⟨hC.2.2.2.2.1, rfl⟩) ?_
  refine r_aload_n hK d_Processor_put_69 rfl 1 rfl ?_
  refine r_dup hK d_Processor_put_70 rfl ?_
  refine p_getI (f := 13) (v := nI 2) hK d_Processor_put_71 k_Processor fd_Processor_41_Processor (by decide) rfl rfl (by rintro g rfl; exact ⟨hp, (by simp [gSetI, gSetR, gSetA, gSetB, gNew, gNewA, up2, up1, gx, gk, gl, gi, gr, ga, gb])⟩) ?_
  refine r_iconst (v := nI 1) hK d_Processor_put_74 (by decide) ?_
  refine r_iadd hK d_Processor_put_75 ?_
  refine r_tp (b := nI 3) (rfl) ?_
  refine p_putI (k := 2) (f := 13) hK d_Processor_put_76 k_Processor fd_Processor_41_Processor (by decide) rfl rfl rfl rfl rfl (by rintro g rfl; exact ⟨hp, rfl⟩) ?_
  refine r_vret hK d_Processor_put_79 rfl ?_
  exact ⟨rfl, rfl⟩
