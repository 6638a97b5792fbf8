theorem sh_amt : ∀ j, j < 16 → ((nI (2 * j) &&& 31).toBitVec.smod 32) = BitVec.ofNat 32 (2 * j) ∧ ((nI (2 * j)).toUInt32 &&& Int32.toUInt32 31) = UInt32.ofNat (2 * j) ∧ (BitVec.ofNat 32 (2 * j)).toNat = 2 * j ∧ (UInt32.ofNat (2 * j)).toBitVec % 32 = BitVec.ofNat 32 (2 * j) := by decide +kernel
theorem sh_and (a : Int32) (j : Nat) (hj : j < 16) : (a.toUInt32 >>> ((nI (2 * j)).toUInt32 &&& Int32.toUInt32 31)).toInt32 &&& nI 3 = (a >>> (nI (2 * j) &&& 31)) &&& nI 3 := by
  obtain ⟨h1, h2, h4, h5⟩ := sh_amt j hj
  rw [h2]
  apply Int32.toBitVec_inj.mp
  rw [Int32.toBitVec_and, Int32.toBitVec_and, Int32.toBitVec_shiftRight, h1]
  apply BitVec.eq_of_getLsbD_eq
  intro i hi
  simp only [BitVec.getLsbD_and]
  have h3 : (nI 3).toBitVec = 3#32 := by decide
  rw [h3]
  by_cases hi2 : i < 2
  · congr 1
    show (a.toUInt32 >>> UInt32.ofNat (2 * j)).toBitVec.getLsbD i = _
    rw [UInt32.toBitVec_shiftRight, h5, show a.toBitVec.sshiftRight' (BitVec.ofNat 32 (2 * j)) = a.toBitVec.sshiftRight (BitVec.ofNat 32 (2 * j)).toNat from rfl, BitVec.getLsbD_sshiftRight, BitVec.ushiftRight_eq', BitVec.getLsbD_ushiftRight, h4, if_pos (by omega)]
    have h6 : decide (32 ≤ i) = false := by simp; omega
    rw [h6]
    rfl
  · have : (3#32).getLsbD i = false := by
      rw [BitVec.getLsbD_ofNat]
      have : (3 : Nat).testBit i = false := Nat.testBit_lt_two_pow (Nat.lt_of_lt_of_le (by decide : 3 < 2 ^ 2) (Nat.pow_le_pow_right (by decide) (by omega)))
      rw [this]; simp
    rw [this]; simp
