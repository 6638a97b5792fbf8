/-- -1 or a natural, by a code -/
def dI : Nat → Int32
  | 0 => -1
  | k + 1 => nI k
theorem dI_ne {c : Nat} (h : c ≠ 0) : dI c = nI (c - 1) := by
  cases c with
  | zero => exact absurd rfl h
  | succ k => rfl
theorem dI_s (k : Nat) : dI (k + 1) = nI k := rfl
section ROWS8
variable {σ : Type} {X : gCx} {l : Launch} {Hd : σ → Heap → Prop} {M : gMd} {d : Nat} {Po : Option Value → σ → Prop} {K : Nat → List (Nat × Value) → List Value → σ → Nat → Nat → Prop} {pc kc ks : Nat} {lv : List (Nat × Value)} {st : List Value} {x : σ}
theorem r_dif_lt (hK : Good X l Hd M d Po K) {c : Nat} {off : Int} {tgt : Nat} (hd : decode M.2.1 pc = .ok (.ifCond .lt off, 3)) (ht : (pc : Int) + off = (tgt : Int)) (hc : c < 2 ^ 31) (kt : c = 0 → K tgt lv st x kc ks) (kf : c ≠ 0 → K (pc + 3) lv st x kc ks) : K pc lv (.int (dI c) :: st) x kc ks := by
  refine r_if_lt hK hd ht (fun q => kt ?_) (fun q => kf (fun z => q (by rw [z]; decide)))
  cases c with
  | zero => rfl
  | succ k => exact absurd q (nI_pos (by omega))
theorem r_dif_ge (hK : Good X l Hd M d Po K) {c : Nat} {off : Int} {tgt : Nat} (hd : decode M.2.1 pc = .ok (.ifCond .ge off, 3)) (ht : (pc : Int) + off = (tgt : Int)) (hc : c < 2 ^ 31) (kt : c ≠ 0 → K tgt lv st x kc ks) (kf : c = 0 → K (pc + 3) lv st x kc ks) : K pc lv (.int (dI c) :: st) x kc ks := by
  refine r_if_ge hK hd ht (fun q => kt (fun z => absurd q (by rw [z]; decide))) (fun q => kf ?_)
  cases c with
  | zero => rfl
  | succ k => exact absurd (nI_pos' (by omega)) q
end ROWS8
theorem nb1 {x : Nat} (h : x ≤ 1) : narrow .boolean (.int (nI x)) = .int (nI x) := by
  have : x = 0 ∨ x = 1 := by omega
  rcases this with rfl | rfl <;> rfl
