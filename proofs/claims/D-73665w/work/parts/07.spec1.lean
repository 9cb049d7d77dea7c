set_option maxRecDepth 100000
/-! THE PURE WORDS, 1: bits, the tape, strokes by numbers -/
theorem nI_iI (n : Nat) : nI n = iI (n : Int) := by rw [iI, Int32.ofInt_eq_ofNat]; rfl
theorem s_l32 : ∀ n, n < 32 → ((nI n &&& 31).toBitVec.smod 32).toNat = n := by decide +kernel
theorem sh_r {a m : Int} (h : r32 a) (n : Nat) (hn : n < 32) (hm : m = (n : Int)) : iI a >>> (iI m &&& 31) = iI (a / 2 ^ n) := by
  refine Int32.toInt_inj.mp ?_
  subst hm
  rw [← nI_iI, pk_shr _ _ n (s_l32 n hn), iI_toInt h, Int.shiftRight_eq_div_pow, iI_toInt]
  · rfl
  · have h0 : (0 : Int) < 2 ^ n := Int.pow_pos (by decide)
    have h1 : (1 : Int) ≤ 2 ^ n := h0
    have := h
    refine ⟨?_, ?_⟩
    · rw [Int.le_ediv_iff_mul_le h0]
      have : (-2147483648 : Int) * 2 ^ n ≤ -2147483648 * 1 := Int.mul_le_mul_of_nonpos_left (by decide) h1
      omega
    · exact Int.ediv_lt_of_lt_mul h0 (by have : (2147483648 : Int) * 1 ≤ 2147483648 * 2 ^ n := Int.mul_le_mul_of_nonneg_left h1 (by decide); omega)
theorem bv_iI (a : Int) : ((iI a).toBitVec.toNat : Int) = a % 4294967296 := by
  have h : (iI a).toBitVec = BitVec.ofInt 32 a := by first | rfl | exact Int32.toBitVec_ofInt ..
  rw [h, BitVec.toNat_ofInt]
  have h2 : (0 : Int) ≤ a % 4294967296 := Int.emod_nonneg _ (by decide)
  have h3 : ((2 ^ 32 : Nat) : Int) = 4294967296 := rfl
  rw [h3]
  omega
theorem an_255 (a : Int) : iI a &&& iI 255 = iI (a % 256) := by
  have h := pk_and (iI a) (m := iI 255) 8 (by decide)
  rw [h, nI_iI]
  congr 1
  have := bv_iI a
  omega
/-- four bytes of v from place p on -/
def lay4 (f : Int → Int) (p v : Int) : Int → Int := fun j => if j = p + 3 then v / 2 ^ 0 % 256 else if j = p + 2 then v / 2 ^ 8 % 256 else if j = p + 1 then v / 2 ^ 16 % 256 else if j = p + 0 then v / 2 ^ 24 % 256 else f j
/-- a stroke's points: how many; its numbers -/
def np (σ : mS) (s : Int) : Int := if s < 40 then σ 0 (960 + s) else σ 8 (s - 40)
def nu (σ : mS) (s j : Int) : Int := if s < 40 then σ 0 (24 * s + j) else σ 7 (24 * (s - 40) + j)
def feed5 (f : Int → Int) (p a b c d e : Int) : Int → Int := lay4 (lay4 (lay4 (lay4 (lay4 f p a) (p + 4) b) (p + 4 + 4) c) (p + 4 + 4 + 4) d) (p + 4 + 4 + 4 + 4) e
/-- a byte of the text that is read; none -/
def bya (σ : mS) (k : Int) : Int := if 0 ≤ k ∧ k < σ 16 0 then σ 11 k else -1
theorem bya_r (σ : mS) (k : Int) (ht : ∀ j, 0 ≤ j → j < 1600 → 0 ≤ σ 11 j ∧ σ 11 j < 256) (hz : 0 ≤ σ 16 0 ∧ σ 16 0 ≤ 1600) : -1 ≤ bya σ k ∧ bya σ k < 256 := by
  rw [bya]
  split
  · have := ht k (by omega) (by omega)
    omega
  · omega
