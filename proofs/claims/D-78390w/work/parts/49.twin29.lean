/-! TWIN: random numbers -/
set_option maxRecDepth 100000
def rndN (x : Int64) : Nat := (x.toUInt64 >>> 33).toNat
theorem rnd_lt (x : Int64) : rndN x < 2 ^ 31 := by
  unfold rndN
  rw [UInt64.toNat_shiftRight]
  have h := x.toUInt64.toNat_lt
  rw [show (33 : UInt64).toNat % 64 = 33 from rfl, Nat.shiftRight_eq_div_pow]
  omega
theorem rnd_eq (x : Int64) : (x.toUInt64 >>> 33).toInt64.toInt32 = nI (rndN x) := by
  have h := rnd_lt x
  unfold rndN at *
  generalize x.toUInt64 >>> 33 = u at *
  apply Int32.toBitVec_inj.mp
  have e1 : u.toInt64.toInt32.toBitVec = u.toBitVec.signExtend 32 := rfl
  rw [e1]
  apply BitVec.eq_of_toNat_eq
  rw [BitVec.signExtend_eq_setWidth_of_le _ (by decide), BitVec.toNat_setWidth]
  show u.toNat % 2 ^ 32 = _
  have e2 : (nI u.toNat).toBitVec = BitVec.ofNat 32 u.toNat := rfl
  rw [e2, BitVec.toNat_ofNat]
