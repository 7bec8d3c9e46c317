section
/-! ===== Int32 by its bits: qb_t x i ===== -/
def qb_t (x : Int32) (i : Nat) : Bool := x.toBitVec.getLsbD i
theorem qb_ext {x y : Int32} (h : ∀ i, i < 32 → qb_t x i = qb_t y i) : x = y := Int32.toBitVec_inj.mp (BitVec.eq_of_getLsbD_eq (fun i hi => h i hi))
theorem qb_or (x y : Int32) (i : Nat) : qb_t (x ||| y) i = (qb_t x i || qb_t y i) := by unfold qb_t; rw [Int32.toBitVec_or, BitVec.getLsbD_or]
theorem qb_and (x y : Int32) (i : Nat) : qb_t (x &&& y) i = (qb_t x i && qb_t y i) := by unfold qb_t; rw [Int32.toBitVec_and, BitVec.getLsbD_and]
theorem qb_xor (x y : Int32) (i : Nat) : qb_t (x ^^^ y) i = (qb_t x i ^^ qb_t y i) := by unfold qb_t; rw [Int32.toBitVec_xor, BitVec.getLsbD_xor]
theorem qb_big {x : Int32} {i : Nat} (h : 32 ≤ i) : qb_t x i = false := BitVec.getLsbD_of_ge _ _ h
theorem qb_255 (i : Nat) : qb_t 255 i = decide (i < 8) := by
  rcases Nat.lt_or_ge i 32 with h | h
  · exact (by decide +kernel : ∀ i, i < 32 → qb_t 255 i = decide (i < 8)) i h
  · rw [qb_big h, decide_eq_false (by omega)]
theorem qb_65535 (i : Nat) : qb_t 65535 i = decide (i < 16) := by
  rcases Nat.lt_or_ge i 32 with h | h
  · exact (by decide +kernel : ∀ i, i < 32 → qb_t 65535 i = decide (i < 16)) i h
  · rw [qb_big h, decide_eq_false (by omega)]
theorem qb_m1 : ∀ i, i < 32 → qb_t (-1) i = true := by decide +kernel
theorem qb_0 (i : Nat) : qb_t 0 i = false := BitVec.getLsbD_zero
theorem qb_sl : ∀ n, n < 32 → ((nI n &&& 31).toBitVec.smod 32).toNat = n := by decide +kernel
theorem qb_su : ∀ n, n < 32 → (((nI n).toUInt32 &&& Int32.toUInt32 31).toBitVec % 32).toNat = n := by decide +kernel
theorem qb_shl (n : Nat) (hn : n < 32) (x : Int32) {i : Nat} (hi : i < 32) : qb_t (x <<< (nI n &&& 31)) i = (decide (n ≤ i) && qb_t x (i - n)) := by
  unfold qb_t
  rw [Int32.toBitVec_shiftLeft]
  show (x.toBitVec <<< ((nI n &&& 31).toBitVec.smod 32).toNat).getLsbD i = _
  rw [qb_sl n hn, BitVec.getLsbD_shiftLeft]
  rcases Nat.lt_or_ge i n with h | h
  · simp [h, Nat.not_le.mpr h]
  · simp [hi, h, Nat.not_lt.mpr h]
theorem qb_ushr (n : Nat) (hn : n < 32) (x : Int32) (i : Nat) : qb_t ((x.toUInt32 >>> ((nI n).toUInt32 &&& Int32.toUInt32 31)).toInt32) i = qb_t x (n + i) := by
  show (x.toUInt32 >>> ((nI n).toUInt32 &&& Int32.toUInt32 31)).toBitVec.getLsbD i = x.toUInt32.toBitVec.getLsbD (n + i)
  rw [UInt32.toBitVec_shiftRight]
  show (x.toUInt32.toBitVec >>> (((nI n).toUInt32 &&& Int32.toUInt32 31).toBitVec % 32).toNat).getLsbD i = _
  rw [qb_su n hn, BitVec.getLsbD_ushiftRight]
theorem qb_sshr (n : Nat) (hn : n < 32) (x : Int32) {i : Nat} (hi : i < 32) : qb_t (x >>> (nI n &&& 31)) i = if n + i < 32 then qb_t x (n + i) else qb_t x 31 := by
  unfold qb_t
  rw [Int32.toBitVec_shiftRight]
  show (x.toBitVec.sshiftRight ((nI n &&& 31).toBitVec.smod 32).toNat).getLsbD i = _
  rw [qb_sl n hn, BitVec.getLsbD_sshiftRight, BitVec.msb_eq_getLsbD_last]
  simp [hi]
theorem qb_shl8 (x : Int32) {i : Nat} (hi : i < 32) : qb_t (x <<< ((8 : Int32) &&& 31)) i = (decide (8 ≤ i) && qb_t x (i - 8)) := qb_shl 8 (by omega) x hi
theorem qb_shl16 (x : Int32) {i : Nat} (hi : i < 32) : qb_t (x <<< ((16 : Int32) &&& 31)) i = (decide (16 ≤ i) && qb_t x (i - 16)) := qb_shl 16 (by omega) x hi
theorem qb_shl24 (x : Int32) {i : Nat} (hi : i < 32) : qb_t (x <<< ((24 : Int32) &&& 31)) i = (decide (24 ≤ i) && qb_t x (i - 24)) := qb_shl 24 (by omega) x hi
theorem qb_sshr8 (x : Int32) {i : Nat} (hi : i < 32) : qb_t (x >>> ((8 : Int32) &&& 31)) i = if 8 + i < 32 then qb_t x (8 + i) else qb_t x 31 := qb_sshr 8 (by omega) x hi
/-! ===== lN n to 2^64: shifts, and, or, masks, one bit ===== -/
theorem qw_tb (n : Nat) : (lN n).toBitVec = BitVec.ofNat 64 n := rfl
theorem qw_inj {a b : Int64} (h : a.toBitVec = b.toBitVec) : a = b := Int64.toBitVec_inj.mp h
theorem qw_tn {n : Nat} (h : n < 2 ^ 64) : (lN n).toBitVec.toNat = n := by rw [qw_tb, BitVec.toNat_ofNat, Nat.mod_eq_of_lt h]
theorem qw_of (x : Int64) : ∃ n, n < 2 ^ 64 ∧ x = lN n := ⟨x.toBitVec.toNat, x.toBitVec.isLt, qw_inj (by rw [qw_tb]; simp)⟩
theorem qw_of32 (x : Int32) : ∃ n, n < 2 ^ 32 ∧ x = nI n := ⟨x.toBitVec.toNat, x.toBitVec.isLt, Int32.toBitVec_inj.mp (by show _ = BitVec.ofNat 32 _; simp)⟩
theorem qw_c : ∀ k, k < 64 → ((nI k).toInt64 &&& 63) = lN k := by decide +kernel
theorem qw_cu : ∀ k, k < 64 → ((nI k).toInt64.toUInt64 &&& Int64.toUInt64 63) = UInt64.ofNat k := by decide +kernel
theorem qw_sm : ∀ k, k < 64 → (BitVec.ofNat 64 k).smod 64 = BitVec.ofNat 64 k := by decide +kernel
theorem qw_pw {a b : Nat} (h : a ≤ b) : 2 ^ b = 2 ^ a * 2 ^ (b - a) := by rw [← Nat.pow_add]; congr 1; omega
theorem qw_lt2 {a b : Nat} (h : a < b) : 2 ^ a < 2 ^ b := Nat.pow_lt_pow_right (by decide) h
theorem qw_mod (n : Nat) : lN n = lN (n % 2 ^ 64) := qw_inj (by rw [qw_tb, qw_tb]; apply BitVec.eq_of_toNat_eq; rw [BitVec.toNat_ofNat, BitVec.toNat_ofNat, Nat.mod_mod])
theorem qw_shl (n : Nat) {k : Nat} (hk : k < 64) : lN n <<< ((nI k).toInt64 &&& 63) = lN (n * 2 ^ k) := by
  rw [qw_c k hk]
  apply qw_inj
  rw [Int64.toBitVec_shiftLeft, qw_tb, qw_tb, qw_tb, qw_sm k hk]
  apply BitVec.eq_of_toNat_eq
  rw [BitVec.shiftLeft_eq', BitVec.toNat_shiftLeft, BitVec.toNat_ofNat, BitVec.toNat_ofNat, BitVec.toNat_ofNat, Nat.mod_eq_of_lt (show k < 2 ^ 64 by omega), Nat.shiftLeft_eq, Nat.mul_mod, Nat.mod_mod, ← Nat.mul_mod]
theorem qw_and {a b : Nat} (ha : a < 2 ^ 64) (hb : b < 2 ^ 64) : lN a &&& lN b = lN (a &&& b) := by
  apply qw_inj
  rw [Int64.toBitVec_and, qw_tb, qw_tb, qw_tb]
  apply BitVec.eq_of_toNat_eq
  rw [BitVec.toNat_and, BitVec.toNat_ofNat, BitVec.toNat_ofNat, BitVec.toNat_ofNat, Nat.mod_eq_of_lt ha, Nat.mod_eq_of_lt hb, Nat.mod_eq_of_lt (Nat.and_lt_two_pow _ hb)]
theorem qw_or {a b : Nat} (ha : a < 2 ^ 64) (hb : b < 2 ^ 64) : lN a ||| lN b = lN (a ||| b) := by
  apply qw_inj
  rw [Int64.toBitVec_or, qw_tb, qw_tb, qw_tb]
  apply BitVec.eq_of_toNat_eq
  rw [BitVec.toNat_or, BitVec.toNat_ofNat, BitVec.toNat_ofNat, BitVec.toNat_ofNat, Nat.mod_eq_of_lt ha, Nat.mod_eq_of_lt hb, Nat.mod_eq_of_lt (Nat.or_lt_two_pow ha hb)]
theorem qw_mask {n k : Nat} (hn : n < 2 ^ 64) (hk : k < 64) : lN n &&& lN (2 ^ k - 1) = lN (n % 2 ^ k) := by
  rw [qw_and hn (by have := qw_lt2 hk; omega), Nat.and_two_pow_sub_one_eq_mod]
/-! ===== lN to 2^62 under >> and >>> ===== -/
theorem qf_lI {a : Nat} (h : a < 2 ^ 63) : (lN a).toInt = (a : Int) := lg_ofNat_toInt h
theorem qf_shr {a d : Nat} {D : Int64} (hD : (D.toBitVec.smod 64).toNat = d) (h : a < 2 ^ 62) : lN a >>> D = lN (a / 2 ^ d) := by
  have hd : a / 2 ^ d ≤ a := Nat.div_le_self _ _
  apply Int64.toInt_inj.mp
  have e : (lN a >>> D).toInt = (lN a).toInt >>> d := by
    rw [← hD]
    exact BitVec.toInt_sshiftRight ..
  rw [e, Int.shiftRight_eq_div_pow, qf_lI (by omega), qf_lI (by omega)]
  rfl
theorem qb_sshr16 (x : Int32) {i : Nat} (hi : i < 32) : qb_t (x >>> ((16 : Int32) &&& 31)) i = if 16 + i < 32 then qb_t x (16 + i) else qb_t x 31 := qb_sshr 16 (by omega) x hi
theorem qb_sshr24 (x : Int32) {i : Nat} (hi : i < 32) : qb_t (x >>> ((24 : Int32) &&& 31)) i = if 24 + i < 32 then qb_t x (24 + i) else qb_t x 31 := qb_sshr 24 (by omega) x hi
end
section
/-! ===== pure rows ===== -/
/-- the colour at place k of a picture -/
def pv_col (a : Nat → Int32) (k : Nat) : Int32 := ((a k <<< ((16 : Int32) &&& 31)) ||| (a (144 + k) <<< ((8 : Int32) &&& 31))) ||| a (288 + k)
/-- a colour is put at place k -/
def pv_put (a : Nat → Int32) (k : Nat) (z : Int32) : Nat → Int32 := upd (upd (upd a k ((z >>> ((16 : Int32) &&& 31)) &&& 255)) (144 + k) ((z >>> ((8 : Int32) &&& 31)) &&& 255)) (288 + k) (z &&& 255)
theorem pv_32 {i : Nat} (h : i < 32) : i = 0 ∨ i = 1 ∨ i = 2 ∨ i = 3 ∨ i = 4 ∨ i = 5 ∨ i = 6 ∨ i = 7 ∨ i = 8 ∨ i = 9 ∨ i = 10 ∨ i = 11 ∨ i = 12 ∨ i = 13 ∨ i = 14 ∨ i = 15 ∨ i = 16 ∨ i = 17 ∨ i = 18 ∨ i = 19 ∨ i = 20 ∨ i = 21 ∨ i = 22 ∨ i = 23 ∨ i = 24 ∨ i = 25 ∨ i = 26 ∨ i = 27 ∨ i = 28 ∨ i = 29 ∨ i = 30 ∨ i = 31 := by omega
theorem pv_hi {n i : Nat} (h : n < 16777216) (hi : 24 ≤ i) : qb_t (nI n) i = false := by
  show (BitVec.ofNat 32 n).getLsbD i = false
  rw [BitVec.getLsbD_ofNat, Nat.testBit_lt_two_pow (Nat.lt_of_lt_of_le (show n < 2 ^ 24 from h) (Nat.pow_le_pow_right (by decide) hi)), Bool.and_false]
theorem pv_rec {n : Nat} (h : n < 16777216) : ((((nI n >>> ((16 : Int32) &&& 31)) &&& 255) <<< ((16 : Int32) &&& 31)) ||| (((nI n >>> ((8 : Int32) &&& 31)) &&& 255) <<< ((8 : Int32) &&& 31))) ||| (nI n &&& 255) = nI n := by
  apply qb_ext
  intro i hi
  have hz := @pv_hi n i h
  generalize nI n = x at hz
  rcases pv_32 hi with rfl | rfl | rfl | rfl | rfl | rfl | rfl | rfl | rfl | rfl | rfl | rfl | rfl | rfl | rfl | rfl | rfl | rfl | rfl | rfl | rfl | rfl | rfl | rfl | rfl | rfl | rfl | rfl | rfl | rfl | rfl | rfl <;> simp [qb_or, qb_and, qb_255, qb_shl8, qb_shl16, qb_sshr8, qb_sshr16] <;> simpa using hz
theorem pv_chk (c : Int32) : ((((((((0 : Int32) <<< ((8 : Int32) &&& 31)) ||| ((c >>> ((24 : Int32) &&& 31)) &&& 255)) <<< ((8 : Int32) &&& 31)) ||| ((c >>> ((16 : Int32) &&& 31)) &&& 255)) <<< ((8 : Int32) &&& 31)) ||| ((c >>> ((8 : Int32) &&& 31)) &&& 255)) <<< ((8 : Int32) &&& 31)) ||| (c &&& 255) = c := by
  apply qb_ext
  intro i hi
  rcases pv_32 hi with rfl | rfl | rfl | rfl | rfl | rfl | rfl | rfl | rfl | rfl | rfl | rfl | rfl | rfl | rfl | rfl | rfl | rfl | rfl | rfl | rfl | rfl | rfl | rfl | rfl | rfl | rfl | rfl | rfl | rfl | rfl | rfl <;> simp [qb_or, qb_and, qb_255, qb_0, qb_shl8, qb_sshr8, qb_sshr16, qb_sshr24]
theorem pv_colPut {a : Nat → Int32} {n : Nat} (h : n < 16777216) : pv_col (pv_put a 0 (nI n)) 0 = nI n := by
  have e0 : pv_put a 0 (nI n) 0 = (nI n >>> ((16 : Int32) &&& 31)) &&& 255 := by unfold pv_put; rw [pk_un (by decide), pk_un (by decide), pk_us]
  have e1 : pv_put a 0 (nI n) (144 + 0) = (nI n >>> ((8 : Int32) &&& 31)) &&& 255 := by unfold pv_put; rw [pk_un (by decide), pk_us]
  have e2 : pv_put a 0 (nI n) (288 + 0) = nI n &&& 255 := by unfold pv_put; rw [pk_us]
  unfold pv_col
  rw [e0, e1, e2]
  exact pv_rec h
theorem pv_col0 {a : Nat → Int32} (h0 : a 0 = 0) (h1 : a 144 = 0) (h2 : a 288 = 0) : pv_col a 0 = 0 := by
  unfold pv_col
  rw [h0, show a (144 + 0) = 0 from h1, show a (288 + 0) = 0 from h2]
  decide
theorem pv_colE {a b : Nat → Int32} (h0 : a 0 = b 0) (h1 : a 144 = b 144) (h2 : a 288 = b 288) : pv_col a 0 = pv_col b 0 := by
  unfold pv_col
  rw [h0, show a (144 + 0) = b (144 + 0) from h1, show a (288 + 0) = b (288 + 0) from h2]
theorem pv_updS (f : Nat → Int32) (k : Nat) : upd f k (f k) = f := by
  funext j
  by_cases e : j = k
  · rw [e, pk_us]
  · rw [pk_un e]
/-! the coder's low, and its numbers -/
def pv_sl (x : Int64) : Int64 := (x &&& 16777215) <<< ((8 : Int32).toInt64 &&& 63)
theorem pv_slN {n : Nat} (hn : n < 2 ^ 64) : pv_sl (lN n) = lN (n % 16777216 * 256) := by
  have e : lN n &&& (16777215 : Int64) = lN (n % 16777216) := qw_mask (k := 24) hn (by decide)
  unfold pv_sl
  rw [e]
  exact qw_shl (n % 16777216) (k := 8) (by decide)
theorem pv_sl4 (x : Int64) : pv_sl (pv_sl (pv_sl (pv_sl x))) = 0 := by
  obtain ⟨n, hn, rfl⟩ := qw_of x
  rw [pv_slN hn, pv_slN (by omega), pv_slN (by omega), pv_slN (by omega), show n % 16777216 * 256 % 16777216 * 256 % 16777216 * 256 % 16777216 * 256 = 0 by omega]
  rfl
theorem pv_lshl (r : Nat) : lN r <<< ((8 : Int32).toInt64 &&& 63) = lN (r * 256) := qw_shl r (k := 8) (by decide)
theorem pv_shr11 {r : Nat} (h : r < 2 ^ 62) : lN r >>> ((11 : Int32).toInt64 &&& 63) = lN (r / 2048) := qf_shr (d := 11) (by decide) h
theorem pv_shr1 {r : Nat} (h : r < 2 ^ 62) : lN r >>> ((1 : Int32).toInt64 &&& 63) = lN (r / 2) := qf_shr (d := 1) (by decide) h
theorem pv_lge {r : Nat} (h : 16777216 ≤ r) (hr : r < 2 ^ 63) : (16777216 : Int64) ≤ lN r := (pk_lLE (a := 16777216) (by decide) hr).mpr h
theorem pv_llt {r : Nat} (h : r < 16777216) : ¬ (16777216 : Int64) ≤ lN r := fun z => absurd ((pk_lLE (a := 16777216) (by decide) (by omega)).mp z) (by omega)
theorem pv_up {c : Nat} (h1 : 1 ≤ c) (h2 : c ≤ 2047) : ∃ d, 1 ≤ d ∧ d ≤ 2047 ∧ nI c + ((2048 - nI c) >>> ((5 : Int32) &&& 31)) = nI d := by
  refine ⟨c + (2048 - c) / 32, by omega, by omega, ?_⟩
  have e1 : (2048 : Int32) - nI c = nI (2048 - c) := pk_sub (a := 2048) (by omega)
  rw [e1, pk_shrN (by omega) _ 5 (by decide), nI_add]
theorem pv_down {c : Nat} (h1 : 1 ≤ c) (h2 : c ≤ 2047) : ∃ d, 1 ≤ d ∧ d ≤ 2047 ∧ nI c - (nI c >>> ((5 : Int32) &&& 31)) = nI d := by
  refine ⟨c - c / 32, by omega, by omega, ?_⟩
  rw [pk_shrN (by omega) _ 5 (by decide), pk_sub (by omega)]
/-! small whole numbers -/
theorem pv_z {x : Int32} (h : ¬ x < 0) (h1 : ¬ 1 ≤ x) : x = 0 := by
  rcases pk_ix x (n := 1) (by decide) with a | a | ⟨j, hj, e⟩
  · exact absurd a h
  · exact absurd a h1
  · have : j = 0 := by omega
    subst this
    exact e
theorem pv_in4 {x : Int32} (h : ¬ x < 0) (h1 : ¬ 4 ≤ x) : ∃ k : Nat, k < 4 ∧ x = nI k := by
  rcases pk_ix x (n := 4) (by decide) with a | a | b
  · exact absurd a h
  · exact absurd a h1
  · exact b
theorem pv_nlt0 {x : Int32} (h : x = 0) : ¬ x < 0 := by rw [h]; decide
theorem pv_ltt {x a b : Int32} (h : x < a) (hab : a.toInt ≤ b.toInt := by decide) : x < b := by
  have := Int32.lt_iff_toInt_lt.mp h
  exact Int32.lt_iff_toInt_lt.mpr (by omega)
/-- x ≤ 3 is not 4 ≤ x -/
theorem pv_leI {x a b : Int32} (hab : b.toInt = a.toInt + 1) : x ≤ a ↔ ¬ b ≤ x := by
  rw [Int32.le_iff_toInt_le, Int32.le_iff_toInt_le]
  omega
theorem pv_ltI {x b : Int32} : x < b ↔ ¬ b ≤ x := by
  rw [Int32.lt_iff_toInt_lt, Int32.le_iff_toInt_le]
  omega
theorem pv_ix (k i : Nat) : (512 : Int32) * nI k + nI i = nI (512 * k + i) := by
  rw [show (512 : Int32) * nI k = nI (512 * k) from pk_mul 512 k, nI_add]
end
section
/-! ===== small methods; the slots while nothing is packed ===== -/
section PVSMALL
variable {w h aw ah fw fh cs oc li : Int32} {lo ra co : Int64} {he wa so se cr : Int32} {a1 a2 a3 a4 a5 a6 a7 a8 a9 a10 a11 a12 a13 a14 a15 : Nat → Int32}
theorem pv_colourAt {post : Int32 → Prop} {k : Nat} (hk : k < 144) (hp : post (pv_col a1 k)) : wpX_colourAt post (w, h, aw, ah, fw, fh, cs, oc, li, lo, ra, co, he, wa, so, se, cr, a1, a2, a3, a4, a5, a6, a7, a8, a9, a10, a11, a12, a13, a14, a15) (nI k) := by
  refine ⟨pk_in k 432 (by omega), pk_in (144 + k) 432 (by omega) (nI_add 144 k), pk_in (288 + k) 432 (by omega) (nI_add 288 k), ?_⟩
  rw [show (144 : Int32) + nI k = nI (144 + k) from nI_add 144 k, show (288 : Int32) + nI k = nI (288 + k) from nI_add 288 k, nI_clamp (show k < 2 ^ 31 by omega), nI_clamp (show 144 + k < 2 ^ 31 by omega), nI_clamp (show 288 + k < 2 ^ 31 by omega)]
  exact hp
theorem pv_colourAt0 {post : Int32 → Prop} {x : Int32} (hx : x = 0) (hp : post (pv_col a1 0)) : wpX_colourAt post (w, h, aw, ah, fw, fh, cs, oc, li, lo, ra, co, he, wa, so, se, cr, a1, a2, a3, a4, a5, a6, a7, a8, a9, a10, a11, a12, a13, a14, a15) x := by
  subst hx
  exact pv_colourAt (k := 0) (by omega) hp
theorem pv_setColour {post : St2 → Prop} {k : Nat} {z : Int32} (hk : k < 144) (hp : post (w, h, aw, ah, fw, fh, cs, oc, li, lo, ra, co, he, wa, so, se, cr, pv_put a1 k z, a2, a3, a4, a5, a6, a7, a8, a9, a10, a11, a12, a13, a14, a15)) : wpX_setColour post (w, h, aw, ah, fw, fh, cs, oc, li, lo, ra, co, he, wa, so, se, cr, a1, a2, a3, a4, a5, a6, a7, a8, a9, a10, a11, a12, a13, a14, a15) (nI k) z := by
  refine ⟨pk_in k 432 (by omega), ?_⟩
  intro b1 e1
  refine ⟨pk_in (144 + k) 432 (by omega) (nI_add 144 k), ?_⟩
  intro b2 e2
  refine ⟨pk_in (288 + k) 432 (by omega) (nI_add 288 k), ?_⟩
  intro b3 e3
  rw [nI_clamp (show k < 2 ^ 31 by omega)] at e1
  rw [show (144 : Int32) + nI k = nI (144 + k) from nI_add 144 k, nI_clamp (show 144 + k < 2 ^ 31 by omega)] at e2
  rw [show (288 : Int32) + nI k = nI (288 + k) from nI_add 288 k, nI_clamp (show 288 + k < 2 ^ 31 by omega)] at e3
  subst e1 e2 e3
  exact hp
theorem pv_digest1 {post : Int32 → Prop} (hp : post (pv_col a1 0)) : wpX_digest post (1, 1, aw, ah, fw, fh, cs, oc, li, lo, ra, co, he, wa, so, se, cr, a1, a2, a3, a4, a5, a6, a7, a8, a9, a10, a11, a12, a13, a14, a15) := by
  refine ⟨2, ?_⟩
  refine br_f (by decide) (pv_colourAt0 rfl ?_)
  refine nm_r (e' := pv_col a1 0) (by simp) (nm_r (e' := nI 1) (by decide) ?_)
  exact br_t (by decide) hp
theorem pv_isPlace1 {post : Int32 → Prop} {x y : Int32} (h1 : x = 0 ∧ y = 0 → post 1) (h0 : ¬ (x = 0 ∧ y = 0) → post 0) : wpX_isPlace post (1, 1, aw, ah, fw, fh, cs, oc, li, lo, ra, co, he, wa, so, se, cr, a1, a2, a3, a4, a5, a6, a7, a8, a9, a10, a11, a12, a13, a14, a15) x y := by
  refine br_c (fun c => h0 (fun e => absurd c (by rw [e.1]; decide))) (fun c => br_c (fun d => h0 (fun e => absurd d (by rw [e.1]; decide))) (fun d => br_c (fun f => h0 (fun e => absurd f (by rw [e.2]; decide))) (fun f => br_c (fun g => h0 (fun e => absurd g (by rw [e.2]; decide))) (fun g => h1 ⟨pv_z c d, pv_z f g⟩))))
theorem pv_get1 {post : Int32 → Prop} {x y : Int32} (h1 : x = 0 ∧ y = 0 → post (pv_col a1 0)) (h0 : ¬ (x = 0 ∧ y = 0) → post (-1)) : wpX_get post (1, 1, aw, ah, fw, fh, cs, oc, li, lo, ra, co, he, wa, so, se, cr, a1, a2, a3, a4, a5, a6, a7, a8, a9, a10, a11, a12, a13, a14, a15) x y := by
  unfold wpX_get
  refine pv_isPlace1 (fun e => br_f (by decide) ?_) (fun e => br_t rfl (h0 e))
  obtain ⟨rfl, rfl⟩ := e
  exact pv_colourAt0 (by decide) (h1 ⟨rfl, rfl⟩)
/-- the first place of a picture of any size -/
theorem pv_get0 {post : Int32 → Prop} {W H : Nat} (hW : 1 ≤ W ∧ W ≤ 12) (hH : 1 ≤ H ∧ H ≤ 12) (hp : post (pv_col a1 0)) : wpX_get post (nI W, nI H, aw, ah, fw, fh, cs, oc, li, lo, ra, co, he, wa, so, se, cr, a1, a2, a3, a4, a5, a6, a7, a8, a9, a10, a11, a12, a13, a14, a15) 0 0 := by
  unfold wpX_get
  refine br_f (by decide) (br_f (fun z => absurd z (nI_ge (a := 0) (by omega) (by omega))) (br_f (by decide) (br_f (fun z => absurd z (nI_ge (a := 0) (by omega) (by omega))) (br_f (by decide) ?_))))
  exact pv_colourAt0 (by simp) hp
theorem pv_isColour {post : Int32 → Prop} {z : Int32} (h1 : (∃ n, n < 16777216 ∧ z = nI n) → post 1) (h0 : ¬ (∃ n, n < 16777216 ∧ z = nI n) → post 0) : wpX_isColour post () z := by
  refine br_c (fun c => h0 ?_) (fun c => br_c (fun d => h0 ?_) (fun d => h1 ?_))
  · intro ⟨n, hn, e⟩
    rw [e] at c
    exact nI_pos (by omega) c
  · intro ⟨n, hn, e⟩
    rw [e] at d
    exact nI_ge hn (by decide) d
  · rcases pk_ix z (n := 16777216) (by decide) with a | a | b
    · exact absurd a c
    · exact absurd a d
    · exact b
theorem pv_set1 {post : Int32 → St2 → Prop} {x y z : Int32} (hb : ¬ (x = 0 ∧ y = 0 ∧ ∃ n, n < 16777216 ∧ z = nI n) → post (-1) (1, 1, aw, ah, fw, fh, cs, oc, li, lo, ra, co, he, wa, so, se, cr, a1, a2, a3, a4, a5, a6, a7, a8, a9, a10, a11, a12, a13, a14, a15)) (hg : x = 0 → y = 0 → (∃ n, n < 16777216 ∧ z = nI n) → post (pv_col a1 0) (1, 1, aw, ah, fw, fh, cs, oc, li, lo, ra, co, he, wa, so, se, cr, pv_put a1 0 z, a2, a3, a4, a5, a6, a7, a8, a9, a10, a11, a12, a13, a14, a15)) : wpX_set post (1, 1, aw, ah, fw, fh, cs, oc, li, lo, ra, co, he, wa, so, se, cr, a1, a2, a3, a4, a5, a6, a7, a8, a9, a10, a11, a12, a13, a14, a15) x y z := by
  unfold wpX_set
  refine pv_isPlace1 (fun e => br_f (by decide) ?_) (fun e => br_t rfl (hb (fun t => e ⟨t.1, t.2.1⟩)))
  refine pv_isColour (fun c => br_f (by decide) ?_) (fun c => br_t rfl (hb (fun t => c t.2.2)))
  obtain ⟨rfl, rfl⟩ := e
  refine nm_r (e' := 0) (by decide) ?_
  refine pv_colourAt0 rfl ?_
  exact pv_setColour (k := 0) (by omega) (hg rfl rfl c)
/-! slots -/
/-- what an empty vault answers for a slot -/
def pv_A (x r : Int32) : Prop := (r = -1 ∧ (x < 0 ∨ 4 ≤ x)) ∨ (r = -2 ∧ ∃ k, k < 4 ∧ x = nI k)
theorem pv_Aneg {x r : Int32} (g : pv_A x r) : ¬ 0 ≤ r := by
  rcases g with ⟨rfl, _⟩ | ⟨rfl, _⟩ <;> decide
theorem pv_slotN {post : Int32 → Prop} {x : Int32} (hb : x < 0 ∨ 4 ≤ x) (hp : post 0) : wpX_isSlot post () x := br_c (fun _ => hp) (fun c => br_c (fun _ => hp) (fun d => absurd hb (fun t => t.elim c d)))
theorem pv_slotY {post : Int32 → Prop} {k : Nat} (hk : k < 4) (hp : post 1) : wpX_isSlot post () (nI k) := br_f (nI_pos (by omega)) (br_f (nI_ge (b := 4) hk (by decide)) hp)
theorem pv_slotE (x : Int32) : (x < 0 ∨ 4 ≤ x) ∨ ∃ k, k < 4 ∧ x = nI k := by
  rcases pk_ix x (n := 4) (by decide) with a | a | b
  · exact Or.inl (Or.inl a)
  · exact Or.inl (Or.inr a)
  · exact Or.inr b
theorem pv_cl4 {k : Nat} (hk : k < 4) (hz : ∀ k, k < 4 → a5 k = 0) : a5 (nI k).toNatClampNeg = 0 := by
  rw [nI_clamp (by omega)]
  exact hz k hk
theorem pv_tr0 {post : Int32 → St2 → Prop} {x r : Int32} (g : pv_A x r) (hz : ∀ k, k < 4 → a5 k = 0) (hp : post r (w, h, aw, ah, fw, fh, cs, oc, li, lo, ra, co, he, wa, so, se, cr, a1, a2, a3, a4, a5, a6, a7, a8, a9, a10, a11, a12, a13, a14, a15)) : wpX_troubleOf post (w, h, aw, ah, fw, fh, cs, oc, li, lo, ra, co, he, wa, so, se, cr, a1, a2, a3, a4, a5, a6, a7, a8, a9, a10, a11, a12, a13, a14, a15) x := by
  unfold wpX_troubleOf
  rcases g with ⟨rfl, hb⟩ | ⟨rfl, k, hk, rfl⟩
  · exact pv_slotN hb (br_t rfl hp)
  · exact pv_slotY hk (br_f (by decide) ⟨pk_in k 4 hk, br_t (pv_cl4 hk hz) hp⟩)
theorem pv_unpack0 {post : Int32 → St2 → Prop} {x r : Int32} (g : pv_A x r) (hz : ∀ k, k < 4 → a5 k = 0) (hp : post r (w, h, aw, ah, fw, fh, cs, oc, li, lo, ra, co, he, wa, so, se, cr, a1, a2, a3, a4, a5, a6, a7, a8, a9, a10, a11, a12, a13, a14, a15)) : wpX_unpack post (w, h, aw, ah, fw, fh, cs, oc, li, lo, ra, co, he, wa, so, se, cr, a1, a2, a3, a4, a5, a6, a7, a8, a9, a10, a11, a12, a13, a14, a15) x := by
  unfold wpX_unpack
  exact pv_tr0 g hz (br_f (pv_Aneg g) hp)
theorem pv_peek0 {post : Int32 → St2 → Prop} {x r y z : Int32} (g : pv_A x r) (hz : ∀ k, k < 4 → a5 k = 0) (hp : post r (w, h, aw, ah, fw, fh, cs, oc, li, lo, ra, co, he, wa, so, se, cr, a1, a2, a3, a4, a5, a6, a7, a8, a9, a10, a11, a12, a13, a14, a15)) : wpX_peek post (w, h, aw, ah, fw, fh, cs, oc, li, lo, ra, co, he, wa, so, se, cr, a1, a2, a3, a4, a5, a6, a7, a8, a9, a10, a11, a12, a13, a14, a15) x y z := by
  unfold wpX_peek
  exact pv_tr0 g hz (br_f (pv_Aneg g) hp)
theorem pv_preview0 {post : Int32 → St2 → Prop} {x r t : Int32} (g : pv_A x r) (hz : ∀ k, k < 4 → a5 k = 0) (h1 : (t = 1 ∨ t = 2) → post r (w, h, aw, ah, fw, fh, cs, oc, li, lo, ra, co, he, wa, so, se, cr, a1, a2, a3, a4, a5, a6, a7, a8, a9, a10, a11, a12, a13, a14, a15)) (h0 : ¬ t = 1 → ¬ t = 2 → post (-1) (w, h, aw, ah, fw, fh, cs, oc, li, lo, ra, co, he, wa, so, se, cr, a1, a2, a3, a4, a5, a6, a7, a8, a9, a10, a11, a12, a13, a14, a15)) : wpX_preview post (w, h, aw, ah, fw, fh, cs, oc, li, lo, ra, co, he, wa, so, se, cr, a1, a2, a3, a4, a5, a6, a7, a8, a9, a10, a11, a12, a13, a14, a15) x t := by
  unfold wpX_preview
  refine br_c (fun c => h0 (fun e => absurd c (by rw [e]; decide)) (fun e => absurd c (by rw [e]; decide))) (fun c => br_c (fun d => pv_tr0 g hz (br_f (pv_Aneg g) (h1 ?_))) (fun d => h0 (fun e => absurd (show t ≤ 2 by rw [e]; decide) d) (fun e => absurd (show t ≤ 2 by rw [e]; decide) d)))
  rcases pk_ix t (n := 3) (by decide) with a | a | ⟨j, hj, e⟩
  · exact absurd (pv_ltt a) c
  · exact absurd a ((pv_leI (by decide)).mp d)
  · rcases (show j = 0 ∨ j = 1 ∨ j = 2 by omega) with rfl | rfl | rfl
    · exact absurd (show t < 1 by rw [e]; decide) c
    · exact Or.inl e
    · exact Or.inr e
theorem pv_rework0 {post : Int32 → St2 → Prop} {x r t : Int32} (g : pv_A x r) (hz : ∀ k, k < 4 → a5 k = 0) (h1 : ¬ t < 0 → ¬ 4 ≤ t → post r (w, h, aw, ah, fw, fh, cs, oc, li, lo, ra, co, he, wa, so, se, cr, a1, a2, a3, a4, a5, a6, a7, a8, a9, a10, a11, a12, a13, a14, a15)) (h0 : (t < 0 ∨ 4 ≤ t) → post (-1) (w, h, aw, ah, fw, fh, cs, oc, li, lo, ra, co, he, wa, so, se, cr, a1, a2, a3, a4, a5, a6, a7, a8, a9, a10, a11, a12, a13, a14, a15)) : wpX_rework post (w, h, aw, ah, fw, fh, cs, oc, li, lo, ra, co, he, wa, so, se, cr, a1, a2, a3, a4, a5, a6, a7, a8, a9, a10, a11, a12, a13, a14, a15) x t := by
  unfold wpX_rework
  exact br_c (fun c => h0 (Or.inl c)) (fun c => br_c (fun d => pv_tr0 g hz (br_f (pv_Aneg g) (h1 c ((pv_leI (by decide)).mp d)))) (fun d => h0 (Or.inr (Classical.byContradiction (fun n => d ((pv_leI (by decide)).mpr n))))))
theorem pv_clear0 {post : Int32 → St2 → Prop} {x r : Int32} (g : pv_A x r) (hz : ∀ k, k < 4 → a5 k = 0) (hp : post r (w, h, aw, ah, fw, fh, cs, oc, li, lo, ra, co, he, wa, so, se, cr, a1, a2, a3, a4, a5, a6, a7, a8, a9, a10, a11, a12, a13, a14, a15)) : wpX_clear post (w, h, aw, ah, fw, fh, cs, oc, li, lo, ra, co, he, wa, so, se, cr, a1, a2, a3, a4, a5, a6, a7, a8, a9, a10, a11, a12, a13, a14, a15) x := by
  unfold wpX_clear
  rcases g with ⟨rfl, hb⟩ | ⟨rfl, k, hk, rfl⟩
  · exact pv_slotN hb (br_t rfl hp)
  · exact pv_slotY hk (br_f (by decide) ⟨pk_in k 4 hk, br_t (pv_cl4 hk hz) hp⟩)
theorem pv_damage0 {post : Int32 → St2 → Prop} {x r t : Int32} (g : pv_A x r) (hz : ∀ k, k < 4 → a5 k = 0) (hp : post r (w, h, aw, ah, fw, fh, cs, oc, li, lo, ra, co, he, wa, so, se, cr, a1, a2, a3, a4, a5, a6, a7, a8, a9, a10, a11, a12, a13, a14, a15)) : wpX_damage post (w, h, aw, ah, fw, fh, cs, oc, li, lo, ra, co, he, wa, so, se, cr, a1, a2, a3, a4, a5, a6, a7, a8, a9, a10, a11, a12, a13, a14, a15) x t := by
  unfold wpX_damage
  rcases g with ⟨rfl, hb⟩ | ⟨rfl, k, hk, rfl⟩
  · exact pv_slotN hb (br_t rfl hp)
  · exact pv_slotY hk (br_f (by decide) ⟨pk_in k 4 hk, br_t (pv_cl4 hk hz) hp⟩)
theorem pv_repair0 {post : Int32 → St2 → Prop} {x r : Int32} (g : pv_A x r) (hz : ∀ k, k < 4 → a5 k = 0) (hp : post r (w, h, aw, ah, fw, fh, cs, oc, li, lo, ra, co, he, wa, so, se, cr, a1, a2, a3, a4, a5, a6, a7, a8, a9, a10, a11, a12, a13, a14, a15)) : wpX_repair post (w, h, aw, ah, fw, fh, cs, oc, li, lo, ra, co, he, wa, so, se, cr, a1, a2, a3, a4, a5, a6, a7, a8, a9, a10, a11, a12, a13, a14, a15) x := by
  unfold wpX_repair
  rcases g with ⟨rfl, hb⟩ | ⟨rfl, k, hk, rfl⟩
  · exact pv_slotN hb (br_t rfl hp)
  · exact pv_slotY hk (br_f (by decide) ⟨pk_in k 4 hk, br_t (pv_cl4 hk hz) hp⟩)
theorem pv_state0 {post : Int32 → St2 → Prop} {x : Int32} (hz : ∀ k, k < 4 → a5 k = 0) (h0 : (x < 0 ∨ 4 ≤ x) → post (-1) (w, h, aw, ah, fw, fh, cs, oc, li, lo, ra, co, he, wa, so, se, cr, a1, a2, a3, a4, a5, a6, a7, a8, a9, a10, a11, a12, a13, a14, a15)) (h1 : (∃ k, k < 4 ∧ x = nI k) → post 0 (w, h, aw, ah, fw, fh, cs, oc, li, lo, ra, co, he, wa, so, se, cr, a1, a2, a3, a4, a5, a6, a7, a8, a9, a10, a11, a12, a13, a14, a15)) : wpX_state post (w, h, aw, ah, fw, fh, cs, oc, li, lo, ra, co, he, wa, so, se, cr, a1, a2, a3, a4, a5, a6, a7, a8, a9, a10, a11, a12, a13, a14, a15) x := by
  unfold wpX_state
  rcases pv_slotE x with hb | ⟨k, hk, rfl⟩
  · exact pv_slotN hb (br_t rfl (h0 hb))
  · exact pv_slotY hk (br_f (by decide) ⟨pk_in k 4 hk, br_t (pv_cl4 hk hz) (h1 ⟨k, hk, rfl⟩)⟩)
theorem pv_same0 {post : Int32 → St2 → Prop} {x r y : Int32} (g : pv_A x r) (hz : ∀ k, k < 4 → a5 k = 0) (h0 : (y < 0 ∨ 4 ≤ y) → post (-1) (w, h, aw, ah, fw, fh, cs, oc, li, lo, ra, co, he, wa, so, se, cr, a1, a2, a3, a4, a5, a6, a7, a8, a9, a10, a11, a12, a13, a14, a15)) (h1 : (∃ k, k < 4 ∧ y = nI k) → post r (w, h, aw, ah, fw, fh, cs, oc, li, lo, ra, co, he, wa, so, se, cr, a1, a2, a3, a4, a5, a6, a7, a8, a9, a10, a11, a12, a13, a14, a15)) : wpX_same post (w, h, aw, ah, fw, fh, cs, oc, li, lo, ra, co, he, wa, so, se, cr, a1, a2, a3, a4, a5, a6, a7, a8, a9, a10, a11, a12, a13, a14, a15) x y := by
  unfold wpX_same
  rcases g with ⟨rfl, hb⟩ | ⟨rfl, k, hk, rfl⟩
  · exact pv_slotN hb (br_t rfl ((pv_slotE y).elim h0 h1))
  · refine pv_slotY hk (br_f (by decide) ?_)
    rcases pv_slotE y with hb | ⟨j, hj, rfl⟩
    · exact pv_slotN hb (br_t rfl (h0 hb))
    · exact pv_slotY hj (br_f (by decide) ⟨pk_in k 4 hk, br_t (pv_cl4 hk hz) (h1 ⟨j, hj, rfl⟩)⟩)
theorem pv_copy0 {post : Int32 → St2 → Prop} {x r y : Int32} (g : pv_A x r) (hz : ∀ k, k < 4 → a5 k = 0) (h0 : (y < 0 ∨ 4 ≤ y) → post (-1) (w, h, aw, ah, fw, fh, cs, oc, li, lo, ra, co, he, wa, so, se, cr, a1, a2, a3, a4, a5, a6, a7, a8, a9, a10, a11, a12, a13, a14, a15)) (h1 : (∃ k, k < 4 ∧ y = nI k) → post r (w, h, aw, ah, fw, fh, cs, oc, li, lo, ra, co, he, wa, so, se, cr, a1, a2, a3, a4, a5, a6, a7, a8, a9, a10, a11, a12, a13, a14, a15)) : wpX_copy post (w, h, aw, ah, fw, fh, cs, oc, li, lo, ra, co, he, wa, so, se, cr, a1, a2, a3, a4, a5, a6, a7, a8, a9, a10, a11, a12, a13, a14, a15) x y := by
  unfold wpX_copy
  rcases g with ⟨rfl, hb⟩ | ⟨rfl, k, hk, rfl⟩
  · exact pv_slotN hb (br_t rfl ((pv_slotE y).elim h0 h1))
  · refine pv_slotY hk (br_f (by decide) ?_)
    rcases pv_slotE y with hb | ⟨j, hj, rfl⟩
    · exact pv_slotN hb (br_t rfl (h0 hb))
    · exact pv_slotY hj (br_f (by decide) ⟨pk_in k 4 hk, br_t (pv_cl4 hk hz) (h1 ⟨j, hj, rfl⟩)⟩)
end PVSMALL
end
section
/-! ===== turn and halve on a picture of one place ===== -/
section PVTURN
variable {w h aw ah fw fh cs oc li : Int32} {lo ra co : Int64} {he wa so se cr : Int32} {a1 a2 a3 a4 a5 a6 a7 a8 a9 a10 a11 a12 a13 a14 a15 : Nat → Int32}
theorem pv_tp125 {post : St2 → Prop} {c : Nat} {t z : Int32} {b : Nat → Int32} (hc : c < 3) (hz : z = 0) (hp : post (1, 1, aw, ah, fw, fh, cs, oc, li, lo, ra, co, he, wa, so, se, cr, a1, a2, a3, a4, a5, a6, a7, a8, a9, a10, upd b 0 (a1 (144 * c)), a12, a13, a14, a15)) :
    wX_turnPlane_125 post (wX_turnPlane_37 post (nI (144 * c)) t 1 1 aw ah fw fh cs oc li lo ra co he wa so se cr 1) (nI (144 * c)) t 0 z 1 1 aw ah fw fh cs oc li lo ra co he wa so se cr a1 a2 a3 a4 a5 a6 a7 a8 a9 a10 (upd b 0 (a1 (144 * c))) a12 a13 a14 a15 := by
  subst hz
  refine ⟨pk_in 0 144 (by decide), pk_in (144 * c) 432 (by omega) (Int32.add_zero _), ?_⟩
  intro b1 e1
  rw [Int32.add_zero, nI_clamp (show 144 * c < 2 ^ 31 by omega), show (0 : Int32).toNatClampNeg = 0 from by decide, pk_us, pv_updS] at e1
  subst e1
  refine nm_r (e' := nI 1) (by decide) ?_
  exact br_t (by decide) hp
theorem pv_turnPlane {post : St2 → Prop} {c : Nat} {x t : Int32} (hx : x = nI (144 * c)) (hc : c < 3) (hp : ∀ b, post (1, 1, aw, ah, fw, fh, cs, oc, li, lo, ra, co, he, wa, so, se, cr, a1, a2, a3, a4, a5, a6, a7, a8, a9, a10, b, a12, a13, a14, a15)) : wpX_turnPlane post (1, 1, aw, ah, fw, fh, cs, oc, li, lo, ra, co, he, wa, so, se, cr, a1, a2, a3, a4, a5, a6, a7, a8, a9, a10, a11, a12, a13, a14, a15) x t := by
  subst hx
  unfold wpX_turnPlane
  refine ⟨2, br_f (by decide) ⟨pk_in (144 * c) 432 (by omega) (Int32.add_zero _), pk_in 0 144 (by decide), ?_⟩⟩
  refine nm_r (e' := upd a11 0 (a1 (144 * c))) (by rw [Int32.add_zero, nI_clamp (show 144 * c < 2 ^ 31 by omega), show (0 : Int32).toNatClampNeg = 0 from by decide]) (nm_r (e' := nI 1) (by decide) (br_t (by decide) ⟨2, ?_⟩))
  refine br_f (by decide) ⟨by decide, nm_r (e' := 0) (by decide) ⟨by decide, nm_r (e' := 0) (by decide) ?_⟩⟩
  exact br_c (fun _ => pv_tp125 hc (by decide) (hp _)) (fun _ => br_c (fun _ => pv_tp125 hc (by decide) (hp _)) (fun _ => pv_tp125 hc (by decide) (hp _)))
theorem pv_turn1 {post : Int32 → St2 → Prop} {t : Int32} (h0 : (t < 0 ∨ 3 ≤ t) → post (-1) (1, 1, aw, ah, fw, fh, cs, oc, li, lo, ra, co, he, wa, so, se, cr, a1, a2, a3, a4, a5, a6, a7, a8, a9, a10, a11, a12, a13, a14, a15)) (h1 : ¬ t < 0 → ¬ 3 ≤ t → ∀ b, post 1 (1, 1, aw, ah, fw, fh, cs, oc, li, lo, ra, co, he, wa, so, se, cr, a1, a2, a3, a4, a5, a6, a7, a8, a9, a10, b, a12, a13, a14, a15)) : wpX_turn post (1, 1, aw, ah, fw, fh, cs, oc, li, lo, ra, co, he, wa, so, se, cr, a1, a2, a3, a4, a5, a6, a7, a8, a9, a10, a11, a12, a13, a14, a15) t := by
  unfold wpX_turn
  refine br_c (fun c => h0 (Or.inl c)) (fun c => br_c (fun d => ⟨4, ?_⟩) (fun d => h0 (Or.inr (Classical.byContradiction (fun n => d ((pv_leI (by decide)).mpr n))))))
  have h2 := h1 c ((pv_leI (by decide)).mp d)
  refine br_f (by decide) (pv_turnPlane (c := 0) (by decide) (by decide) (fun b1 => nm_r (e' := nI 1) (by decide) ?_))
  refine br_f (by decide) (pv_turnPlane (c := 1) (by decide) (by decide) (fun b2 => nm_r (e' := nI 2) (by decide) ?_))
  refine br_f (by decide) (pv_turnPlane (c := 2) (by decide) (by decide) (fun b3 => nm_r (e' := nI 3) (by decide) ?_))
  refine br_t (by decide) (br_c (fun _ => ?_) (fun _ => ?_))
  · exact ek_v (P := fun r => post r _) (show (1 : Int32) * 1 = 1 by decide) (h2 b3)
  · exact ek_v (P := fun r => post r _) (show (1 : Int32) * 1 = 1 by decide) (h2 b3)
theorem pv_alongX1 {post : Int32 → Prop} {c : Nat} (hc : c < 3) (hp : post (a1 (144 * c))) : wpX_alongX post (1, 1, aw, ah, fw, fh, cs, oc, li, lo, ra, co, he, wa, so, se, cr, a1, a2, a3, a4, a5, a6, a7, a8, a9, a10, a11, a12, a13, a14, a15) (nI (144 * c)) 0 0 := by
  have e : (nI (144 * c) + (1 * 0)) + 0 = nI (144 * c) := by simp
  refine ⟨pk_in (144 * c) 432 (by omega) e, ?_⟩
  refine nm_r (e' := a1 (144 * c)) (by rw [e, nI_clamp (show 144 * c < 2 ^ 31 by omega)]) ?_
  exact br_t (by decide) hp
theorem pv_halfAt1 {post : Int32 → Prop} {c : Nat} {x y z : Int32} (hx : x = nI (144 * c)) (hy : y = 0) (hz : z = 0) (hc : c < 3) (hp : post (a1 (144 * c))) : wpX_halfAt post (1, 1, aw, ah, fw, fh, cs, oc, li, lo, ra, co, he, wa, so, se, cr, a1, a2, a3, a4, a5, a6, a7, a8, a9, a10, a11, a12, a13, a14, a15) x y z := by
  subst hx hy hz
  unfold wpX_halfAt
  exact pv_alongX1 hc (br_t (by decide) hp)
theorem pv_halve1s {post : Int32 → St2 → Prop} {J : Int32 → (Nat → Int32) → (Nat → Int32) → (Nat → Int32) → (Nat → Int32) → (Nat → Int32) → (Nat → Int32) → (Nat → Int32) → (Nat → Int32) → (Nat → Int32) → (Nat → Int32) → (Nat → Int32) → (Nat → Int32) → (Nat → Int32) → (Nat → Int32) → (Nat → Int32) → Prop} {c : Nat} (hc : c < 3)
    (hJ : ∀ b, J (nI (c + 1)) a1 a2 a3 a4 a5 a6 a7 a8 a9 a10 a11 b a13 a14 a15) : ∃ n, wX_halve_28 post J 1 1 (nI c) 1 1 aw ah fw fh cs oc li lo ra co he wa so se cr n 0 a1 a2 a3 a4 a5 a6 a7 a8 a9 a10 a11 a12 a13 a14 a15 := by
  refine ⟨2, br_f (by decide) ⟨by decide, by decide, ?_⟩⟩
  refine pv_halfAt1 (c := c) (pk_mul 144 c) (by decide) (by decide) hc ⟨pk_in 0 144 (by decide), ?_⟩
  refine nm_r (e' := upd a12 0 (a1 (144 * c))) (by rw [show (0 : Int32).toNatClampNeg = 0 from by decide]) (nm_r (e' := nI 1) (by decide) (br_t (by decide) ⟨2, ?_⟩))
  have e : (144 : Int32) * nI c + 0 = nI (144 * c) := by rw [Int32.add_zero]; exact pk_mul 144 c
  refine br_f (by decide) ⟨pk_in 0 144 (by decide), pk_in (144 * c) 432 (by omega) e, ?_⟩
  refine nm_r (e' := a1) (by rw [e, nI_clamp (show 144 * c < 2 ^ 31 by omega), show (0 : Int32).toNatClampNeg = 0 from by decide, pk_us, pv_updS]) (nm_r (e' := nI 1) (by decide) (br_t (by decide) (nm_r (nI_1 c) (hJ _))))
theorem pv_halve1 {post : Int32 → St2 → Prop} (hp : ∀ b, post 1 (1, 1, aw, ah, fw, fh, cs, oc, li, lo, ra, co, he, wa, so, se, cr, a1, a2, a3, a4, a5, a6, a7, a8, a9, a10, a11, b, a13, a14, a15)) : wpX_halve post (1, 1, aw, ah, fw, fh, cs, oc, li, lo, ra, co, he, wa, so, se, cr, a1, a2, a3, a4, a5, a6, a7, a8, a9, a10, a11, a12, a13, a14, a15) := by
  unfold wpX_halve
  refine ⟨by decide, nm_r (e' := 1) (by decide) ⟨by decide, nm_r (e' := 1) (by decide) ⟨4, ?_⟩⟩⟩
  refine br_f (by decide) (pv_halve1s (c := 0) (by decide) (fun b1 => ?_))
  refine br_f (by decide) (pv_halve1s (c := 1) (by decide) (fun b2 => ?_))
  refine br_f (by decide) (pv_halve1s (c := 2) (by decide) (fun b3 => ?_))
  refine br_t (by decide) ?_
  exact ek_v (P := fun r => post r _) (show (1 : Int32) * 1 = 1 by decide) (hp b3)
end PVTURN
end
section
/-! ===== the check number ===== -/
section PVCHECK
variable {w h aw ah fw fh cs oc li : Int32} {lo ra co : Int64} {he wa so se cr : Int32} {a1 a2 a3 a4 a5 a6 a7 a8 a9 a10 a11 a12 a13 a14 a15 : Nat → Int32}
def pv_st (c : Int32) : Int32 := if c &&& 1 = 1 then ((c.toUInt32 >>> ((1 : Int32).toUInt32 &&& Int32.toUInt32 31)).toInt32) ^^^ (-306674912) else ((c.toUInt32 >>> ((1 : Int32).toUInt32 &&& Int32.toUInt32 31)).toInt32) ^^^ 0
def pv_it : Nat → Int32 → Int32
  | 0, c => c
  | n + 1, c => pv_it n (pv_st c)
theorem pv_feedL {post : St2 → Prop} : ∀ (n i : Nat) (c : Int32), i + n = 8 → post (w, h, aw, ah, fw, fh, cs, oc, li, lo, ra, co, he, wa, so, se, pv_it n c, a1, a2, a3, a4, a5, a6, a7, a8, a9, a10, a11, a12, a13, a14, a15) → wX_feed_12 post w h aw ah fw fh cs oc li lo ra co he wa so se a1 a2 a3 a4 a5 a6 a7 a8 a9 a10 a11 a12 a13 a14 a15 (n + 1) (nI i) c := by
  intro n
  induction n with
  | zero =>
    intro i c hi hp
    have : i = 8 := by omega
    subst this
    exact br_t (by decide) hp
  | succ n ih =>
    intro i c hi hp
    refine br_f (nI_ge (b := 8) (by omega) (by decide)) (br_c (fun z => ?_) (fun z => ?_))
    · refine nm_e (nm_r (nI_1 i) (ih (i + 1) _ (by omega) ?_))
      rw [show pv_it (n + 1) c = pv_it n (pv_st c) from rfl, show pv_st c = _ from if_pos z] at hp
      exact hp
    · refine nm_e (nm_r (nI_1 i) (ih (i + 1) _ (by omega) ?_))
      rw [show pv_it (n + 1) c = pv_it n (pv_st c) from rfl, show pv_st c = _ from if_neg z] at hp
      exact hp
theorem pv_feed {post : St2 → Prop} {b : Int32} (hp : post (w, h, aw, ah, fw, fh, cs, oc, li, lo, ra, co, he, wa, so, se, pv_it 8 (cr ^^^ b), a1, a2, a3, a4, a5, a6, a7, a8, a9, a10, a11, a12, a13, a14, a15)) : wpX_feed post (w, h, aw, ah, fw, fh, cs, oc, li, lo, ra, co, he, wa, so, se, cr, a1, a2, a3, a4, a5, a6, a7, a8, a9, a10, a11, a12, a13, a14, a15) b := by
  unfold wpX_feed
  exact nm_e ⟨9, pv_feedL 8 0 _ (by decide) hp⟩
/-- the check's state behind i bytes of slot k -/
def pv_cf (a : Nat → Int32) (k : Nat) : Nat → Int32
  | 0 => -1
  | i + 1 => if i < 2 ∨ 6 ≤ i then pv_it 8 (pv_cf a k i ^^^ a (512 * k + i)) else pv_cf a k i
theorem pv_cfE {a b : Nat → Int32} {k : Nat} : ∀ n, (∀ i, i < n → (i < 2 ∨ 6 ≤ i) → a (512 * k + i) = b (512 * k + i)) → pv_cf a k n = pv_cf b k n := by
  intro n
  induction n with
  | zero => intro _; rfl
  | succ n ih =>
    intro h
    have e := ih (fun i hi => h i (by omega))
    by_cases z : n < 2 ∨ 6 ≤ n
    · rw [show pv_cf a k (n + 1) = _ from if_pos z, show pv_cf b k (n + 1) = _ from if_pos z, e, h n (by omega) z]
    · rw [show pv_cf a k (n + 1) = _ from if_neg z, show pv_cf b k (n + 1) = _ from if_neg z, e]
theorem pv_check28 {post : Int32 → St2 → Prop} {k i n : Nat} (hk : k < 4) (hi : i < 9) (hz : i < 2 ∨ 6 ≤ i) (hw : wX_checkOf_7 post (nI k) n (nI (i + 1)) w h aw ah fw fh cs oc li lo ra co he wa so se (pv_cf a4 k (i + 1)) a1 a2 a3 a4 a5 a6 a7 a8 a9 a10 a11 a12 a13 a14 a15) :
    wX_checkOf_28 post (wX_checkOf_7 post (nI k) n) (nI k) (nI i) w h aw ah fw fh cs oc li lo ra co he wa so se (pv_cf a4 k i) a1 a2 a3 a4 a5 a6 a7 a8 a9 a10 a11 a12 a13 a14 a15 := by
  refine ⟨pk_in (512 * k + i) 2048 (by omega) (pv_ix k i), pv_feed (nm_r (nI_1 i) ?_)⟩
  rw [show pv_cf a4 k (i + 1) = _ from if_pos hz] at hw
  rw [pv_ix, nI_clamp (show 512 * k + i < 2 ^ 31 by omega)]
  exact hw
theorem pv_checkL {post : Int32 → St2 → Prop} {k : Nat} (hk : k < 4) (hu : a5 k = 9) (hp : post (pv_cf a4 k 9 ^^^ (-1)) (w, h, aw, ah, fw, fh, cs, oc, li, lo, ra, co, he, wa, so, se, pv_cf a4 k 9, a1, a2, a3, a4, a5, a6, a7, a8, a9, a10, a11, a12, a13, a14, a15)) : ∃ n, wX_checkOf_7 post (nI k) n 0 w h aw ah fw fh cs oc li lo ra co he wa so se (-1) a1 a2 a3 a4 a5 a6 a7 a8 a9 a10 a11 a12 a13 a14 a15 := by
  have hx : a5 (nI k).toNatClampNeg = nI 9 := by rw [nI_clamp (by omega)]; exact hu
  refine pk_loop (σ := Unit) (fun n i _ => wX_checkOf_7 post (nI k) n (nI i) w h aw ah fw fh cs oc li lo ra co he wa so se (pv_cf a4 k i) a1 a2 a3 a4 a5 a6 a7 a8 a9 a10 a11 a12 a13 a14 a15) (fun _ _ => True) 9 0 () (by omega) trivial ?_ ?_
  · intro n _ _
    exact ⟨pk_in k 4 hk, pk_le 9 9 (fun _ => hp) (fun z => absurd z (by omega)) hx⟩
  · intro n i _ hi _ hw
    have hw := hw () trivial
    refine ⟨pk_in k 4 hk, pk_le 9 i (fun z => absurd z (by omega)) (fun _ => ?_) hx⟩
    refine pk_lt i 2 (fun z => pv_check28 hk hi (Or.inl z) hw) (fun z => pk_lt i 6 (fun z2 => nm_r (nI_1 i) ?_) (fun z2 => pv_check28 hk hi (Or.inr z2) hw))
    rw [show pv_cf a4 k (i + 1) = _ from if_neg (by omega)] at hw
    exact hw
theorem pv_checkOf {post : Int32 → St2 → Prop} {k : Nat} (hk : k < 4) (hu : a5 k = 9) (hp : post (pv_cf a4 k 9 ^^^ (-1)) (w, h, aw, ah, fw, fh, cs, oc, li, lo, ra, co, he, wa, so, se, pv_cf a4 k 9, a1, a2, a3, a4, a5, a6, a7, a8, a9, a10, a11, a12, a13, a14, a15)) : wpX_checkOf post (w, h, aw, ah, fw, fh, cs, oc, li, lo, ra, co, he, wa, so, se, cr, a1, a2, a3, a4, a5, a6, a7, a8, a9, a10, a11, a12, a13, a14, a15) (nI k) := by
  unfold wpX_checkOf
  exact pv_checkL hk hu hp
/-- slot k holds a sound picture of one place, as it is -/
def pv_Snd (a : Nat → Int32) (k : Nat) (R G B : Int32) : Prop :=
  a (512 * k) = 17 ∧ a (512 * k + 1) = 0 ∧ a (512 * k + 6) = R ∧ a (512 * k + 7) = G ∧ a (512 * k + 8) = B ∧
  ((((((((0 : Int32) <<< ((8 : Int32) &&& 31)) ||| a (512 * k + 2)) <<< ((8 : Int32) &&& 31)) ||| a (512 * k + 3)) <<< ((8 : Int32) &&& 31)) ||| a (512 * k + 4)) <<< ((8 : Int32) &&& 31)) ||| a (512 * k + 5) = pv_cf a k 9 ^^^ (-1)
theorem pv_at {k : Nat} (hk : k < 4) {i : Nat} (hi : i < 512) {x : Int32} (hx : x = nI i) : (512 * nI k + x).toNatClampNeg = 512 * k + i := by
  rw [hx, pv_ix, nI_clamp (show 512 * k + i < 2 ^ 31 by omega)]
theorem pv_inb {k : Nat} (hk : k < 4) (i : Nat) (hi : i < 512) {x : Int32} (hx : x = nI i) : vp_in (512 * nI k + x) 2048 := pk_in (512 * k + i) 2048 (by omega) (by rw [hx, pv_ix])
theorem pv_isSound {post : Int32 → St2 → Prop} {k : Nat} {R G B : Int32} (hk : k < 4) (hu : a5 k = 9) (hs : pv_Snd a4 k R G B) (hp : ∀ c, post 1 (w, h, aw, ah, fw, fh, cs, oc, li, lo, ra, co, he, wa, so, se, c, a1, a2, a3, a4, a5, a6, a7, a8, a9, a10, a11, a12, a13, a14, a15)) : wpX_isSound post (w, h, aw, ah, fw, fh, cs, oc, li, lo, ra, co, he, wa, so, se, cr, a1, a2, a3, a4, a5, a6, a7, a8, a9, a10, a11, a12, a13, a14, a15) (nI k) := by
  unfold wpX_isSound
  refine ⟨5, br_f (by decide) ⟨pv_inb hk 2 (by decide) rfl, ?_⟩⟩
  rw [pv_at hk (x := 2) (i := 2) (by decide) rfl]
  refine nm_e (nm_r (e' := nI 3) (by decide) (br_f (by decide) ⟨pv_inb hk 3 (by decide) rfl, ?_⟩))
  rw [pv_at hk (i := 3) (by decide) rfl]
  refine nm_e (nm_r (e' := nI 4) (by decide) (br_f (by decide) ⟨pv_inb hk 4 (by decide) rfl, ?_⟩))
  rw [pv_at hk (i := 4) (by decide) rfl]
  refine nm_e (nm_r (e' := nI 5) (by decide) (br_f (by decide) ⟨pv_inb hk 5 (by decide) rfl, ?_⟩))
  rw [pv_at hk (i := 5) (by decide) rfl]
  refine nm_e (nm_r (e' := nI 6) (by decide) (br_t (by decide) (pv_checkOf hk hu (br_t hs.2.2.2.2.2 (hp _)))))
theorem pv_trS {post : Int32 → St2 → Prop} {k : Nat} {R G B : Int32} (hk : k < 4) (hu : a5 k = 9) (hs : pv_Snd a4 k R G B) (hp : ∀ c, post 0 (w, h, aw, ah, fw, fh, cs, oc, li, lo, ra, co, he, wa, so, se, c, a1, a2, a3, a4, a5, a6, a7, a8, a9, a10, a11, a12, a13, a14, a15)) : wpX_troubleOf post (w, h, aw, ah, fw, fh, cs, oc, li, lo, ra, co, he, wa, so, se, cr, a1, a2, a3, a4, a5, a6, a7, a8, a9, a10, a11, a12, a13, a14, a15) (nI k) := by
  unfold wpX_troubleOf
  refine pv_slotY hk (br_f (by decide) ⟨pk_in k 4 hk, br_f (by rw [nI_clamp (by omega), hu]; decide) ?_⟩)
  exact pv_isSound hk hu hs (fun c => br_f (by decide) (hp c))
theorem pv_stateS {post : Int32 → St2 → Prop} {k : Nat} {R G B : Int32} (hk : k < 4) (hu : a5 k = 9) (hs : pv_Snd a4 k R G B) (hp : ∀ c, post 1 (w, h, aw, ah, fw, fh, cs, oc, li, lo, ra, co, he, wa, so, se, c, a1, a2, a3, a4, a5, a6, a7, a8, a9, a10, a11, a12, a13, a14, a15)) : wpX_state post (w, h, aw, ah, fw, fh, cs, oc, li, lo, ra, co, he, wa, so, se, cr, a1, a2, a3, a4, a5, a6, a7, a8, a9, a10, a11, a12, a13, a14, a15) (nI k) := by
  unfold wpX_state
  refine pv_slotY hk (br_f (by decide) ⟨pk_in k 4 hk, br_f (by rw [nI_clamp (by omega), hu]; decide) ?_⟩)
  exact pv_isSound hk hu hs (fun c => br_f (by decide) (hp c))
theorem pv_stateN {post : Int32 → St2 → Prop} {x : Int32} (hb : x < 0 ∨ 4 ≤ x) (hp : post (-1) (w, h, aw, ah, fw, fh, cs, oc, li, lo, ra, co, he, wa, so, se, cr, a1, a2, a3, a4, a5, a6, a7, a8, a9, a10, a11, a12, a13, a14, a15)) : wpX_state post (w, h, aw, ah, fw, fh, cs, oc, li, lo, ra, co, he, wa, so, se, cr, a1, a2, a3, a4, a5, a6, a7, a8, a9, a10, a11, a12, a13, a14, a15) x := by
  unfold wpX_state
  exact pv_slotN hb (br_t rfl hp)
end PVCHECK
end
section
/-! ===== the coder: it goes on, and brings out at least five bytes ===== -/
section PVCODER
variable {w h aw ah fw fh cs oc li : Int32} {lo ra co : Int64} {he wa so se cr : Int32} {a1 a2 a3 a4 a5 a6 a7 a8 a9 a10 a11 a12 a13 a14 a15 : Nat → Int32}
theorem pv_bring {post : St2 → Prop} {n : Nat} {b : Int32} (hn : n ≤ 640) (hp : ∀ (m : Nat) (a15 : Nat → Int32), n ≤ m → m ≤ 640 → (m = n + 1 ∨ m = 640) → post (w, h, aw, ah, fw, fh, cs, nI m, li, lo, ra, co, he, wa, so, se, cr, a1, a2, a3, a4, a5, a6, a7, a8, a9, a10, a11, a12, a13, a14, a15)) : wpX_bring post (w, h, aw, ah, fw, fh, cs, nI n, li, lo, ra, co, he, wa, so, se, cr, a1, a2, a3, a4, a5, a6, a7, a8, a9, a10, a11, a12, a13, a14, a15) b := by
  unfold wpX_bring
  refine pk_le 640 n (fun z => hp n a15 (by omega) hn (Or.inr (by omega))) (fun z => ⟨pk_in n 640 z, ?_⟩)
  intro b e
  exact nm_r (nI_1 n) (hp (n + 1) b (by omega) (by omega) (Or.inl rfl))
theorem pv_shift31 {post : St2 → Prop} {x1 : Int32} : ∀ (q n : Nat) (he : Int32) (a15 : Nat → Int32), n ≤ 640 → q < 2 ^ 31 → (∀ (m : Nat) (he : Int32) (a15 : Nat → Int32), m ≤ 640 → (n + q ≤ m ∨ m = 640) → post (w, h, aw, ah, fw, fh, cs, nI m, li, pv_sl lo, ra, co, he, nI 1, so, se, cr, a1, a2, a3, a4, a5, a6, a7, a8, a9, a10, a11, a12, a13, a14, a15)) → wX_shift_31 post x1 (q + 1) w h aw ah fw fh cs (nI n) li lo ra co he (nI q) so se cr a1 a2 a3 a4 a5 a6 a7 a8 a9 a10 a11 a12 a13 a14 a15 := by
  intro q
  induction q with
  | zero =>
    intro n he a15 hn hq hp
    refine br_t (by decide) (nm_e ?_)
    unfold wX_shift_88
    exact nm_r (e' := nI 1) (by decide) (nm_r (e' := pv_sl lo) rfl (hp n _ a15 hn (by omega)))
  | succ q ih =>
    intro n he a15 hn hq hp
    refine br_f (nI_nle (by omega) hq) (pv_bring hn (fun m a h1 h2 h3 => nm_r (nI_pred q) ?_))
    exact ih m 255 a h2 (by omega) (fun m' he' a' k1 k2 => hp m' he' a' k1 (by omega))
theorem pv_shift {post : St2 → Prop} {n q : Nat} (hn : n ≤ 640) (hq : 1 ≤ q) (hq2 : q < 2 ^ 30)
    (hp : ∀ (m p : Nat) (he : Int32) (a15 : Nat → Int32), m ≤ 640 → 1 ≤ p → p ≤ q + 1 → (n + q + 1 ≤ m + p ∨ m = 640) → (lo = 0 → (n + q ≤ m ∨ m = 640)) → post (w, h, aw, ah, fw, fh, cs, nI m, li, pv_sl lo, ra, co, he, nI p, so, se, cr, a1, a2, a3, a4, a5, a6, a7, a8, a9, a10, a11, a12, a13, a14, a15)) : wpX_shift post (w, h, aw, ah, fw, fh, cs, nI n, li, lo, ra, co, he, nI q, so, se, cr, a1, a2, a3, a4, a5, a6, a7, a8, a9, a10, a11, a12, a13, a14, a15) := by
  have hf : ∀ x1, ∃ f, wX_shift_31 post x1 f w h aw ah fw fh cs (nI n) li lo ra co he (nI q) so se cr a1 a2 a3 a4 a5 a6 a7 a8 a9 a10 a11 a12 a13 a14 a15 := fun x1 => ⟨q + 1, pv_shift31 q n he a15 hn (by omega) (fun m he' a h1 h2 => hp m 1 he' a h1 (by omega) (by omega) (by omega) (fun _ => h2))⟩
  unfold wpX_shift
  refine br_c (fun c => nm_e (hf _)) (fun c => br_c (fun d => ?_) (fun d => nm_e (hf _)))
  unfold wX_shift_88
  exact nm_r (nI_1 q) (nm_r (e' := pv_sl lo) rfl (hp n (q + 1) he a15 hn (by omega) (by omega) (by omega) (fun e => absurd (by rw [e]; decide) c)))
theorem pv_widen {post : St2 → Prop} {n q r : Nat} (hn : n ≤ 640) (hq : 1 ≤ q) (hq2 : q < 2 ^ 29) (hr : 256 ≤ r) (hr2 : r < 2 ^ 32)
    (hp : ∀ (m p s : Nat) (lo : Int64) (he : Int32) (a15 : Nat → Int32), m ≤ 640 → 1 ≤ p → p ≤ q + 2 → 16777216 ≤ s → s < 2 ^ 32 → post (w, h, aw, ah, fw, fh, cs, nI m, li, lo, lN s, co, he, nI p, so, se, cr, a1, a2, a3, a4, a5, a6, a7, a8, a9, a10, a11, a12, a13, a14, a15)) : wpX_widen post (w, h, aw, ah, fw, fh, cs, nI n, li, lo, lN r, co, he, nI q, so, se, cr, a1, a2, a3, a4, a5, a6, a7, a8, a9, a10, a11, a12, a13, a14, a15) := by
  unfold wpX_widen
  by_cases c1 : 16777216 ≤ r
  · exact ⟨1, br_t (pv_lge c1 (by omega)) (hp n q r lo he a15 hn hq (by omega) c1 hr2)⟩
  · by_cases c2 : 65536 ≤ r
    · refine ⟨2, br_f (pv_llt (by omega)) (nm_r (pv_lshl r) (pv_shift hn hq (by omega) (fun m p he' a h1 h2 h3 _ _ => ?_)))⟩
      exact br_t (pv_lge (by omega) (by omega)) (hp m p (r * 256) _ he' a h1 h2 (by omega) (by omega) (by omega))
    · refine ⟨3, br_f (pv_llt (by omega)) (nm_r (pv_lshl r) (pv_shift hn hq (by omega) (fun m p he' a h1 h2 h3 _ _ => ?_)))⟩
      refine br_f (pv_llt (by omega)) (nm_r (pv_lshl (r * 256)) (pv_shift h1 h2 (by omega) (fun m' p' he'' a' k1 k2 k3 _ _ => ?_)))
      exact br_t (pv_lge (by omega) (by omega)) (hp m' p' (r * 256 * 256) _ he'' a' k1 k2 (by omega) (by omega) (by omega))
/-- chances between 1 and 2047 -/
def pv_ch (a : Nat → Int32) : Prop := ∀ k, k < 428 → ∃ c, 1 ≤ c ∧ c ≤ 2047 ∧ a k = nI c
/-- the coder's state: at most b bytes wait -/
def pv_C (oc wa : Int32) (ra : Int64) (a14 : Nat → Int32) (b : Nat) : Prop := ∃ n q r : Nat, oc = nI n ∧ wa = nI q ∧ ra = lN r ∧ n ≤ 640 ∧ 1 ≤ q ∧ q ≤ b ∧ 16777216 ≤ r ∧ r < 2 ^ 32 ∧ pv_ch a14
theorem pv_Cm {b c : Nat} (h : pv_C oc wa ra a14 b) (hbc : b ≤ c) : pv_C oc wa ra a14 c := by
  obtain ⟨n, q, r, e1, e2, e3, h1, h2, h3, h4, h5, h6⟩ := h
  exact ⟨n, q, r, e1, e2, e3, h1, h2, by omega, h4, h5, h6⟩
theorem pv_chU {k d : Nat} (hc : pv_ch a14) (d1 : 1 ≤ d) (d2 : d ≤ 2047) : pv_ch (upd a14 k (nI d)) := by
  intro j hj
  by_cases e : j = k
  · exact ⟨d, d1, d2, by rw [e, pk_us]⟩
  · rw [pk_un e]
    exact hc j hj
theorem pv_learn {post : St2 → Prop} {k : Nat} {t : Int32} (hk : k < 428) (hc : pv_ch a14) (hp : ∀ a14 : Nat → Int32, pv_ch a14 → post (w, h, aw, ah, fw, fh, cs, oc, li, lo, ra, co, he, wa, so, se, cr, a1, a2, a3, a4, a5, a6, a7, a8, a9, a10, a11, a12, a13, a14, a15)) : wpX_learn post (w, h, aw, ah, fw, fh, cs, oc, li, lo, ra, co, he, wa, so, se, cr, a1, a2, a3, a4, a5, a6, a7, a8, a9, a10, a11, a12, a13, a14, a15) (nI k) t := by
  unfold wpX_learn
  obtain ⟨c, c1, c2, ec⟩ := hc k hk
  refine ⟨pk_in k 428 hk, nm_r (e' := nI c) (by rw [nI_clamp (by omega)]; exact ec) (br_c (fun _ => ⟨pk_in k 428 hk, ?_⟩) (fun _ => ⟨pk_in k 428 hk, ?_⟩))⟩
  · obtain ⟨d, d1, d2, ed⟩ := pv_up c1 c2
    exact nm_r (e' := upd a14 k (nI d)) (by rw [ed, nI_clamp (by omega)]) (hp _ (pv_chU hc d1 d2))
  · obtain ⟨d, d1, d2, ed⟩ := pv_down c1 c2
    exact nm_r (e' := upd a14 k (nI d)) (by rw [ed, nI_clamp (by omega)]) (hp _ (pv_chU hc d1 d2))
theorem pv_bounds {r c : Nat} (h : 16777216 ≤ r) (c1 : 1 ≤ c) (c2 : c ≤ 2047) : 256 ≤ r / 2048 * c ∧ r / 2048 * c + 256 ≤ r := by
  have h1 : r / 2048 * 1 ≤ r / 2048 * c := Nat.mul_le_mul_left _ c1
  have h2 : r / 2048 * c ≤ r / 2048 * 2047 := Nat.mul_le_mul_left _ c2
  omega
theorem pv_putBit {post : St2 → Prop} {k b : Nat} {x t : Int32} (hx : x = nI k) (hk : k < 428) (hb : b < 2 ^ 20) (hC : pv_C oc wa ra a14 b)
    (hp : ∀ (oc : Int32) (lo ra : Int64) (he wa : Int32) (a14 a15 : Nat → Int32), pv_C oc wa ra a14 (b + 2) → post (w, h, aw, ah, fw, fh, cs, oc, li, lo, ra, co, he, wa, so, se, cr, a1, a2, a3, a4, a5, a6, a7, a8, a9, a10, a11, a12, a13, a14, a15)) : wpX_putBit post (w, h, aw, ah, fw, fh, cs, oc, li, lo, ra, co, he, wa, so, se, cr, a1, a2, a3, a4, a5, a6, a7, a8, a9, a10, a11, a12, a13, a14, a15) x t := by
  subst hx
  obtain ⟨n, q, r, rfl, rfl, rfl, hn, hq, hqb, hr1, hr2, hch⟩ := hC
  unfold wpX_putBit
  obtain ⟨c, c1, c2, ec⟩ := hch k hk
  have eb : (lN r >>> ((11 : Int32).toInt64 &&& 63)) * (a14 (nI k).toNatClampNeg).toInt64 = lN (r / 2048 * c) := by
    rw [nI_clamp (by omega), ec, pv_shr11 (by omega), nI_l (by omega), lN_mul]
  obtain ⟨b1, b2⟩ := pv_bounds hr1 c1 c2
  have f : ∀ (lo : Int64) (s : Nat), 256 ≤ s → s < 2 ^ 32 → wX_putBit_48 post (nI k) t w h aw ah fw fh cs (nI n) li lo (lN s) co he (nI q) so se cr a1 a2 a3 a4 a5 a6 a7 a8 a9 a10 a11 a12 a13 a14 a15 := by
    intro lo s s1 s2
    unfold wX_putBit_48
    refine pv_learn hk hch (fun a ha => ?_)
    refine pv_widen hn hq (by omega) s1 s2 (fun m p s' lo' he' a' h1 h2 h3 h4 h5 => ?_)
    exact hp _ _ _ _ _ _ _ ⟨m, p, s', rfl, rfl, rfl, h1, h2, by omega, h4, h5, ha⟩
  refine ⟨pk_in k 428 hk, nm_r eb (br_c (fun _ => f lo _ b1 (by omega)) (fun _ => nm_e (nm_r (lN_sub (by omega)) (f _ _ (by omega) (by omega)))))⟩
theorem pv_putPlainL {post : St2 → Prop} {v : Int32} : ∀ (e b : Nat) (oc : Int32) (lo ra : Int64) (he wa : Int32) (a15 : Nat → Int32), b + 2 * e < 2 ^ 20 → e < 2 ^ 20 → pv_C oc wa ra a14 b →
    (∀ (oc : Int32) (lo ra : Int64) (he wa : Int32) (a15 : Nat → Int32), pv_C oc wa ra a14 (b + 2 * e) → post (w, h, aw, ah, fw, fh, cs, oc, li, lo, ra, co, he, wa, so, se, cr, a1, a2, a3, a4, a5, a6, a7, a8, a9, a10, a11, a12, a13, a14, a15)) → wX_putPlain_4 post v (e + 1) (nI e + (-1)) w h aw ah fw fh cs oc li lo ra co he wa so se cr a1 a2 a3 a4 a5 a6 a7 a8 a9 a10 a11 a12 a13 a14 a15 := by
  intro e
  induction e with
  | zero =>
    intro b oc lo ra he wa a15 _ _ hC hp
    exact br_t (by decide) (hp _ _ _ _ _ _ hC)
  | succ e ih =>
    intro b oc lo ra he wa a15 hb he2 hC hp
    obtain ⟨n, q, r, rfl, rfl, rfl, hn, hq, hqb, hr1, hr2, hch⟩ := hC
    rw [pk_m1]
    have g : ∀ z0 z1 : Int64, wX_putPlain_40 post (wX_putPlain_4 post v (e + 1)) v (nI e) z0 z1 w h aw ah fw fh cs (nI n) li lo (lN (r / 2)) co he (nI q) so se cr a1 a2 a3 a4 a5 a6 a7 a8 a9 a10 a11 a12 a13 a14 a15 := by
      intro z0 z1
      unfold wX_putPlain_40
      refine nm_e (pv_widen hn hq (by omega) (by omega) (by omega) (fun m p s lo' he' a' h1 h2 h3 h4 h5 => nm_e ?_))
      exact ih (b + 2) _ _ _ _ _ _ (by omega) (by omega) ⟨m, p, s, rfl, rfl, rfl, h1, h2, by omega, h4, h5, hch⟩ (fun oc lo ra he wa a15 k => hp oc lo ra he wa a15 (by rw [show b + 2 * (e + 1) = b + 2 + 2 * e by omega]; exact k))
    exact br_f (nI_pos (by omega)) (nm_r (pv_shr1 (by omega)) (br_c (fun _ => g _ _) (fun _ => g _ _)))
theorem pv_putPlain {post : St2 → Prop} {v x : Int32} {e b : Nat} (hx : x = nI e) (hb : b < 2 ^ 18) (he2 : e < 1000) (hC : pv_C oc wa ra a14 b)
    (hp : ∀ (oc : Int32) (lo ra : Int64) (he wa : Int32) (a15 : Nat → Int32), pv_C oc wa ra a14 (b + 2 * e) → post (w, h, aw, ah, fw, fh, cs, oc, li, lo, ra, co, he, wa, so, se, cr, a1, a2, a3, a4, a5, a6, a7, a8, a9, a10, a11, a12, a13, a14, a15)) : wpX_putPlain post (w, h, aw, ah, fw, fh, cs, oc, li, lo, ra, co, he, wa, so, se, cr, a1, a2, a3, a4, a5, a6, a7, a8, a9, a10, a11, a12, a13, a14, a15) v x := by
  subst hx
  unfold wpX_putPlain
  exact nm_r (e' := nI e + (-1)) (Int32.sub_eq_add_neg ..) ⟨e + 1, pv_putPlainL e b _ _ _ _ _ _ (by omega) (by omega) hC hp⟩
theorem pv_resetL {post : St2 → Prop} (hp : ∀ a14 : Nat → Int32, pv_ch a14 → post (w, h, aw, ah, fw, fh, cs, oc, li, lo, ra, co, he, wa, so, se, cr, a1, a2, a3, a4, a5, a6, a7, a8, a9, a10, a11, a12, a13, a14, a15)) : ∃ n, wX_resetChances_2 post w h aw ah fw fh cs oc li lo ra co he wa so se cr n 0 a1 a2 a3 a4 a5 a6 a7 a8 a9 a10 a11 a12 a13 a14 a15 := by
  refine pk_loop (fun n i s => wX_resetChances_2 post w h aw ah fw fh cs oc li lo ra co he wa so se cr n (nI i) a1 a2 a3 a4 a5 a6 a7 a8 a9 a10 a11 a12 a13 s a15) (fun i s => ∀ j, j < i → s j = nI 1024) 428 0 a14 (by omega) (fun j hj => absurd hj (by omega)) ?_ ?_
  · intro n s h
    exact pk_le 428 428 (fun _ => hp s (fun k hk => ⟨1024, by omega, by omega, h k hk⟩)) (fun z => absurd z (by omega))
  · intro n i s hi h hw
    refine pk_le 428 i (fun z => absurd z (by omega)) (fun _ => ⟨pk_in i 428 hi, nm_e (nm_r (nI_1 i) (hw _ ?_))⟩)
    intro j hj
    rw [nI_clamp (by omega)]
    by_cases e : j = i
    · rw [e, pk_us]; rfl
    · rw [pk_un e]
      exact h j (by omega)
theorem pv_begin {post : St2 → Prop} (hp : ∀ (oc : Int32) (lo ra : Int64) (he wa : Int32) (a14 : Nat → Int32), pv_C oc wa ra a14 1 → post (w, h, aw, ah, fw, fh, cs, oc, li, lo, ra, co, he, wa, so, se, cr, a1, a2, a3, a4, a5, a6, a7, a8, a9, a10, a11, a12, a13, a14, a15)) : wpX_begin post (w, h, aw, ah, fw, fh, cs, oc, li, lo, ra, co, he, wa, so, se, cr, a1, a2, a3, a4, a5, a6, a7, a8, a9, a10, a11, a12, a13, a14, a15) := by
  unfold wpX_begin wpX_resetChances
  refine pv_resetL (fun a h => ?_)
  exact hp 0 0 4294967295 0 1 a ⟨0, 1, 4294967295, rfl, rfl, rfl, by omega, by omega, by omega, by omega, by omega, h⟩
theorem pv_finish {post : St2 → Prop} {b : Nat} (hb : b < 2 ^ 20) (hC : pv_C oc wa ra a14 b) (hp : ∀ (m : Nat) (lo : Int64) (he wa : Int32) (a15 : Nat → Int32), 5 ≤ m → m ≤ 640 → post (w, h, aw, ah, fw, fh, cs, nI m, li, lo, ra, co, he, wa, so, se, cr, a1, a2, a3, a4, a5, a6, a7, a8, a9, a10, a11, a12, a13, a14, a15)) : wpX_finish post (w, h, aw, ah, fw, fh, cs, oc, li, lo, ra, co, he, wa, so, se, cr, a1, a2, a3, a4, a5, a6, a7, a8, a9, a10, a11, a12, a13, a14, a15) := by
  obtain ⟨n, q, r, rfl, rfl, rfl, hn, hq, hqb, hr1, hr2, hch⟩ := hC
  unfold wpX_finish
  refine ⟨6, br_f (by decide) (pv_shift hn hq (by omega) (fun n1 q1 he1 c1 h11 h12 h13 h14 _ => nm_r (e' := nI 1) (by decide) ?_))⟩
  refine br_f (by decide) (pv_shift h11 h12 (by omega) (fun n2 q2 he2 c2 h21 h22 h23 h24 _ => nm_r (e' := nI 2) (by decide) ?_))
  refine br_f (by decide) (pv_shift h21 h22 (by omega) (fun n3 q3 he3 c3 h31 h32 h33 h34 _ => nm_r (e' := nI 3) (by decide) ?_))
  refine br_f (by decide) (pv_shift h31 h32 (by omega) (fun n4 q4 he4 c4 h41 h42 h43 h44 _ => nm_r (e' := nI 4) (by decide) ?_))
  refine br_f (by decide) (pv_shift h41 h42 (by omega) (fun n5 q5 he5 c5 h51 h52 h53 h54 h55 => nm_r (e' := nI 5) (by decide) ?_))
  have hm := h55 (pv_sl4 lo)
  exact br_t (by decide) (hp n5 _ _ _ _ (by omega) h51)
end PVCODER
end
section
/-! ===== planes of a picture of one place ===== -/
section PVPLANES
variable {w h aw ah fw fh cs oc li : Int32} {lo ra co : Int64} {he wa so se cr : Int32} {a1 a2 a3 a4 a5 a6 a7 a8 a9 a10 a11 a12 a13 a14 a15 : Nat → Int32}
theorem pv_sizeOfL {post : Int32 → Prop} {z : Int32} (hp : ∀ e, e ≤ 10 → post (nI e)) : ∀ n i, i + n = 10 → wX_sizeOf_2 post z (n + 1) (nI i) := by
  intro n
  induction n with
  | zero =>
    intro i hi
    have : i = 10 := by omega
    subst this
    exact br_t (by decide) (hp 10 (by omega))
  | succ n ih =>
    intro i hi
    exact br_f (nI_ge (b := 10) (by omega) (by decide)) (br_c (fun _ => hp i (by omega)) (fun _ => nm_r (nI_1 i) (ih (i + 1) (by omega))))
theorem pv_sizeOf {post : Int32 → Prop} {z : Int32} (hp : ∀ e, e ≤ 10 → post (nI e)) : wpX_sizeOf post () z := ⟨11, pv_sizeOfL hp 10 0 (by omega)⟩
theorem pv_pn97 {post : St2 → Prop} {v : Int32} {e b : Nat} (he10 : e ≤ 10) (hb : b < 2 ^ 18) (hC : pv_C oc wa ra a14 b)
    (hp : ∀ (oc : Int32) (lo ra : Int64) (he wa : Int32) (a14 a15 : Nat → Int32), pv_C oc wa ra a14 (b + 20) → post (w, h, aw, ah, fw, fh, cs, oc, li, lo, ra, co, he, wa, so, se, cr, a1, a2, a3, a4, a5, a6, a7, a8, a9, a10, a11, a12, a13, a14, a15)) : wX_putNumber_97 post v (nI e) w h aw ah fw fh cs oc li lo ra co he wa so se cr a1 a2 a3 a4 a5 a6 a7 a8 a9 a10 a11 a12 a13 a14 a15 := by
  unfold wX_putNumber_97
  exact pv_putPlain rfl hb (by omega) hC (fun oc lo ra he wa a15 h => hp oc lo ra he wa a14 a15 (pv_Cm h (by omega)))
theorem pv_pn55 {post : St2 → Prop} {v : Int32} {c e : Nat} (hc : c ≤ 400) (he10 : e ≤ 10) : ∀ (f i b : Nat) (oc : Int32) (lo ra : Int64) (he wa : Int32) (a14 a15 : Nat → Int32), i + f = e → b + 2 * f < 2 ^ 17 → pv_C oc wa ra a14 b →
    (∀ (oc : Int32) (lo ra : Int64) (he wa : Int32) (a14 a15 : Nat → Int32), pv_C oc wa ra a14 (b + 2 * f + 22) → post (w, h, aw, ah, fw, fh, cs, oc, li, lo, ra, co, he, wa, so, se, cr, a1, a2, a3, a4, a5, a6, a7, a8, a9, a10, a11, a12, a13, a14, a15)) → wX_putNumber_55 post (nI c) v (nI e) (f + 1) (nI i) w h aw ah fw fh cs oc li lo ra co he wa so se cr a1 a2 a3 a4 a5 a6 a7 a8 a9 a10 a11 a12 a13 a14 a15 := by
  intro f
  induction f with
  | zero =>
    intro i b oc lo ra he wa a14 a15 hi hb hC hp
    have : i = e := by omega
    subst this
    refine br_t (nI_le (Nat.le_refl _) (by omega)) (pk_le 10 i (fun _ => ?_) (fun z => ?_))
    · exact pv_pn97 he10 (by omega) hC (fun oc lo ra he wa a14 a15 h => hp oc lo ra he wa a14 a15 (pv_Cm h (by omega)))
    · refine pv_putBit (k := c + 2 + i) (by rw [show nI c + (2 : Int32) = nI (c + 2) from nI_add c 2, nI_add]) (by omega) (by omega) hC (fun oc lo ra he wa a14 a15 h => ?_)
      exact pv_pn97 he10 (by omega) h (fun oc lo ra he wa a14 a15 h => hp oc lo ra he wa a14 a15 (pv_Cm h (by omega)))
  | succ f ih =>
    intro i b oc lo ra he wa a14 a15 hi hb hC hp
    refine br_f (nI_ge (by omega) (by omega)) (pv_putBit (k := c + 2 + i) (by rw [show nI c + (2 : Int32) = nI (c + 2) from nI_add c 2, nI_add]) (by omega) (by omega) hC (fun oc lo ra he wa a14 a15 h => nm_r (nI_1 i) ?_))
    exact ih (i + 1) (b + 2) _ _ _ _ _ _ _ (by omega) (by omega) h (fun oc lo ra he wa a14 a15 h => hp oc lo ra he wa a14 a15 (pv_Cm h (by omega)))
theorem pv_pn45 {post : St2 → Prop} {v : Int32} {c b : Nat} (hc : c ≤ 400) (hb : b < 2 ^ 16) (hC : pv_C oc wa ra a14 b)
    (hp : ∀ (oc : Int32) (lo ra : Int64) (he wa : Int32) (a14 a15 : Nat → Int32), pv_C oc wa ra a14 (b + 42) → post (w, h, aw, ah, fw, fh, cs, oc, li, lo, ra, co, he, wa, so, se, cr, a1, a2, a3, a4, a5, a6, a7, a8, a9, a10, a11, a12, a13, a14, a15)) : wX_putNumber_45 post (nI c) v w h aw ah fw fh cs oc li lo ra co he wa so se cr a1 a2 a3 a4 a5 a6 a7 a8 a9 a10 a11 a12 a13 a14 a15 := by
  unfold wX_putNumber_45
  exact pv_sizeOf (fun e he10 => ⟨e + 1, pv_pn55 hc he10 e 0 b _ _ _ _ _ _ _ (by omega) (by omega) hC (fun oc lo ra he wa a14 a15 h => hp oc lo ra he wa a14 a15 (pv_Cm h (by omega)))⟩)
theorem pv_pn32 {post : St2 → Prop} {v z x : Int32} {c b : Nat} (hx : x = nI (c + 1)) (hc : c ≤ 400) (hb : b < 2 ^ 15) (hC : pv_C oc wa ra a14 b)
    (hp : ∀ (oc : Int32) (lo ra : Int64) (he wa : Int32) (a14 a15 : Nat → Int32), pv_C oc wa ra a14 (b + 44) → post (w, h, aw, ah, fw, fh, cs, oc, li, lo, ra, co, he, wa, so, se, cr, a1, a2, a3, a4, a5, a6, a7, a8, a9, a10, a11, a12, a13, a14, a15)) : wX_putNumber_32 post (nI c) v z x w h aw ah fw fh cs oc li lo ra co he wa so se cr a1 a2 a3 a4 a5 a6 a7 a8 a9 a10 a11 a12 a13 a14 a15 := by
  unfold wX_putNumber_32
  refine pv_putBit hx (by omega) (by omega) hC (fun oc lo ra he wa a14 a15 h => br_c (fun _ => ?_) (fun _ => ?_))
  · exact pv_pn45 hc (by omega) h (fun oc lo ra he wa a14 a15 h => hp oc lo ra he wa a14 a15 (pv_Cm h (by omega)))
  · exact pv_pn45 hc (by omega) h (fun oc lo ra he wa a14 a15 h => hp oc lo ra he wa a14 a15 (pv_Cm h (by omega)))
theorem pv_pn11 {post : St2 → Prop} {v z : Int32} {c b : Nat} (hc : c ≤ 400) (hb : b < 2 ^ 14) (hC : pv_C oc wa ra a14 b)
    (hp : ∀ (oc : Int32) (lo ra : Int64) (he wa : Int32) (a14 a15 : Nat → Int32), pv_C oc wa ra a14 (b + 50) → post (w, h, aw, ah, fw, fh, cs, oc, li, lo, ra, co, he, wa, so, se, cr, a1, a2, a3, a4, a5, a6, a7, a8, a9, a10, a11, a12, a13, a14, a15)) : wX_putNumber_11 post (nI c) v z (nI c) w h aw ah fw fh cs oc li lo ra co he wa so se cr a1 a2 a3 a4 a5 a6 a7 a8 a9 a10 a11 a12 a13 a14 a15 := by
  unfold wX_putNumber_11
  refine pv_putBit rfl (by omega) (by omega) hC (fun oc lo ra he wa a14 a15 h => br_c (fun _ => hp _ _ _ _ _ _ _ (pv_Cm h (by omega))) (fun _ => br_c (fun _ => ?_) (fun _ => ?_)))
  · exact pv_pn32 (nI_1 c) hc (by omega) h (fun oc lo ra he wa a14 a15 h => hp oc lo ra he wa a14 a15 (pv_Cm h (by omega)))
  · exact pv_pn32 (nI_1 c) hc (by omega) h (fun oc lo ra he wa a14 a15 h => hp oc lo ra he wa a14 a15 (pv_Cm h (by omega)))
theorem pv_putNumber {post : St2 → Prop} {v x : Int32} {c b : Nat} (hx : x = nI c) (hc : c ≤ 400) (hb : b < 2 ^ 14) (hC : pv_C oc wa ra a14 b)
    (hp : ∀ (oc : Int32) (lo ra : Int64) (he wa : Int32) (a14 a15 : Nat → Int32), pv_C oc wa ra a14 (b + 50) → post (w, h, aw, ah, fw, fh, cs, oc, li, lo, ra, co, he, wa, so, se, cr, a1, a2, a3, a4, a5, a6, a7, a8, a9, a10, a11, a12, a13, a14, a15)) : wpX_putNumber post (w, h, aw, ah, fw, fh, cs, oc, li, lo, ra, co, he, wa, so, se, cr, a1, a2, a3, a4, a5, a6, a7, a8, a9, a10, a11, a12, a13, a14, a15) x v := by
  subst hx
  unfold wpX_putNumber
  exact br_c (fun _ => pv_pn11 hc hb hC hp) (fun _ => pv_pn11 hc hb hC hp)
theorem pv_contextOf {post : Int32 → Prop} {p at' : Int32} (hp : ∀ c, c ≤ 400 → post (nI c)) : wpX_contextOf post (w, h, aw, ah, fw, fh, cs, oc, li, lo, ra, co, he, wa, so, se, cr, a1, a2, a3, a4, a5, a6, a7, a8, a9, a10, a11, a12, a13, a14, a15) 0 p at' 0 0 := by
  refine br_t (by decide) (br_t (by decide) (br_t rfl (br_t (by decide) (br_t rfl (br_c (fun _ => ?_) (fun _ => ?_))))))
  · exact nm_r (e' := 0) (by decide) (br_t (by decide) (hp 0 (by decide)))
  · exact nm_r (e' := 1) (by decide) (br_t (by decide) (hp 39 (by decide)))
theorem pv_foretold {post : Int32 → Prop} {at' : Int32} (hp : post 0) : wpX_foretold post (w, h, aw, ah, fw, fh, cs, oc, li, lo, ra, co, he, wa, so, se, cr, a1, a2, a3, a4, a5, a6, a7, a8, a9, a10, a11, a12, a13, a14, a15) 0 at' 0 0 := by
  refine br_t (by decide) (br_t (by decide) (br_t (by decide) (br_t rfl ?_)))
  exact ek_v (P := post) (show (0 : Int32) + 0 = 0 by decide) hp
/-- the parts of a picture of one place: the smallest has one place, the others none -/
def pv_M (a7 a8 a9 : Nat → Int32) : Prop := a7 0 = 1 ∧ a8 0 = 1 ∧ a9 0 = 0 ∧ a9 1 = 1 ∧ ∀ i, 1 ≤ i → i < 5 → a7 i * a8 i = 0
theorem pv_writePart0 {post : St2 → Prop} {p b : Nat} {x y : Int32} (hx : x = 0) (hy : y = nI p) (hp3 : p < 3) (hM : pv_M a7 a8 a9) (hb : b < 2 ^ 14) (hC : pv_C oc wa ra a14 b)
    (hp : ∀ (oc : Int32) (lo ra : Int64) (he wa : Int32) (a14 a15 : Nat → Int32), pv_C oc wa ra a14 (b + 50) → post (w, h, aw, ah, fw, fh, cs, oc, li, lo, ra, co, he, wa, so, se, cr, a1, a2, a3, a4, a5, a6, a7, a8, a9, a10, a11, a12, a13, a14, a15)) : wpX_writePart post (w, h, aw, ah, fw, fh, cs, oc, li, lo, ra, co, he, wa, so, se, cr, a1, a2, a3, a4, a5, a6, a7, a8, a9, a10, a11, a12, a13, a14, a15) x y := by
  subst hx hy
  have e7 : a7 (0 : Int32).toNatClampNeg = 1 := hM.1
  have e8 : a8 (0 : Int32).toNatClampNeg = 1 := hM.2.1
  have e9 : a9 (0 : Int32).toNatClampNeg = 0 := hM.2.2.1
  unfold wpX_writePart
  refine ⟨2, pk_in 0 5 (by decide), pk_in 0 5 (by decide), br_f (by rw [e7, e8]; decide) ⟨pk_in 0 5 (by decide), by rw [e7]; decide, nm_r (e' := 0) (by rw [e7]; decide) ⟨pk_in 0 5 (by decide), by rw [e7]; decide, nm_r (e' := 0) (by rw [e7]; decide) ⟨pk_in 0 5 (by decide), nm_r (e' := nI (144 * p)) (by rw [e9, Int32.add_zero, Int32.add_zero]; exact pk_mul 144 p) ?_⟩⟩⟩⟩
  refine pv_contextOf (fun c hc => pv_foretold ⟨pk_in (144 * p) 432 (by omega), ?_⟩)
  refine pv_putNumber rfl hc hb hC (fun oc lo ra he wa a14 a15 h => nm_r (e' := nI 1) (by decide) ?_)
  exact ⟨pk_in 0 5 (by decide), pk_in 0 5 (by decide), br_t (by rw [e7, e8]; decide) (hp _ _ _ _ _ _ _ h)⟩
theorem pv_writePartZ {post : St2 → Prop} {i : Nat} {x y : Int32} (hx : x = nI i) (hi : i < 5) (h0 : a7 i * a8 i = 0) (hp : post (w, h, aw, ah, fw, fh, cs, oc, li, lo, ra, co, he, wa, so, se, cr, a1, a2, a3, a4, a5, a6, a7, a8, a9, a10, a11, a12, a13, a14, a15)) : wpX_writePart post (w, h, aw, ah, fw, fh, cs, oc, li, lo, ra, co, he, wa, so, se, cr, a1, a2, a3, a4, a5, a6, a7, a8, a9, a10, a11, a12, a13, a14, a15) x y := by
  subst hx
  unfold wpX_writePart
  exact ⟨1, pk_in i 5 hi, pk_in i 5 hi, br_t (by rw [nI_clamp (by omega), h0]; decide) hp⟩
theorem pv_writePlanesZ {post : St2 → Prop} (hM : pv_M a7 a8 a9) (hp : post (w, h, aw, ah, fw, fh, cs, oc, li, lo, ra, co, he, wa, so, se, cr, a1, a2, a3, a4, a5, a6, a7, a8, a9, a10, a11, a12, a13, a14, a15)) : ∀ f k, k + f = 15 → 3 ≤ k → wX_writePlanes_2 post (f + 1) (nI k) w h aw ah fw fh cs oc li lo ra co he wa so se cr a1 a2 a3 a4 a5 a6 a7 a8 a9 a10 a11 a12 a13 a14 a15 := by
  intro f
  induction f with
  | zero =>
    intro k hk _
    have : k = 15 := by omega
    subst this
    exact br_t (by decide) hp
  | succ f ih =>
    intro k hk h3
    refine br_f (nI_ge (b := 15) (by omega) (by decide)) ⟨by decide, by decide, ?_⟩
    exact pv_writePartZ (i := k / 3) (pk_div (d := 3) (by omega) (by decide) (by decide)) (by omega) (hM.2.2.2.2 (k / 3) (by omega) (by omega)) (nm_r (nI_1 k) (ih (k + 1) (by omega) (by omega)))
theorem pv_writePlanes {post : St2 → Prop} {b : Nat} (hM : pv_M a7 a8 a9) (hb : b < 1000) (hC : pv_C oc wa ra a14 b)
    (hp : ∀ (oc : Int32) (lo ra : Int64) (he wa : Int32) (a14 a15 : Nat → Int32), pv_C oc wa ra a14 (b + 150) → post (w, h, aw, ah, fw, fh, cs, oc, li, lo, ra, co, he, wa, so, se, cr, a1, a2, a3, a4, a5, a6, a7, a8, a9, a10, a11, a12, a13, a14, a15)) : wpX_writePlanes post (w, h, aw, ah, fw, fh, cs, oc, li, lo, ra, co, he, wa, so, se, cr, a1, a2, a3, a4, a5, a6, a7, a8, a9, a10, a11, a12, a13, a14, a15) := by
  unfold wpX_writePlanes
  refine ⟨16, br_f (by decide) ⟨by decide, by decide, pv_writePart0 (p := 0) (by decide) (by decide) (by decide) hM (by omega) hC (fun oc lo ra he wa a14 a15 h1 => nm_r (e' := nI 1) (by decide) ?_)⟩⟩
  refine br_f (by decide) ⟨by decide, by decide, pv_writePart0 (p := 1) (by decide) (by decide) (by decide) hM (by omega) h1 (fun oc lo ra he wa a14 a15 h2 => nm_r (e' := nI 2) (by decide) ?_)⟩
  refine br_f (by decide) ⟨by decide, by decide, pv_writePart0 (p := 2) (by decide) (by decide) (by decide) hM (by omega) h2 (fun oc lo ra he wa a14 a15 h3 => nm_r (e' := nI 3) (by decide) ?_)⟩
  exact pv_writePlanesZ hM (hp _ _ _ _ _ _ _ (pv_Cm h3 (by omega))) 12 3 (by omega) (by omega)
theorem pv_setPart {post : St2 → Prop} {p : Nat} {x x1 x2 x3 : Int32} (hx : x = nI p) (h5 : p < 5) (hp : post (w, h, aw, ah, fw, fh, cs, oc, li, lo, ra, co, he, wa, so, se, cr, a1, a2, a3, a4, a5, a6, upd a7 p x1, upd a8 p x2, upd a9 p x3, a10, a11, a12, a13, a14, a15)) : wpX_setPart post (w, h, aw, ah, fw, fh, cs, oc, li, lo, ra, co, he, wa, so, se, cr, a1, a2, a3, a4, a5, a6, a7, a8, a9, a10, a11, a12, a13, a14, a15) x x1 x2 x3 := by
  subst hx
  have e := nI_clamp (n := p) (by omega)
  unfold wpX_setPart
  exact ⟨pk_in p 5 h5, nm_r (by rw [e]) ⟨pk_in p 5 h5, nm_r (by rw [e]) ⟨pk_in p 5 h5, nm_r (by rw [e]) hp⟩⟩⟩
theorem pv_measure {post : St2 → Prop} (hp : ∀ a7 a8 a9 : Nat → Int32, pv_M a7 a8 a9 → post (w, h, aw, ah, fw, fh, cs, oc, li, lo, ra, co, he, wa, so, se, cr, a1, a2, a3, a4, a5, a6, a7, a8, a9, a10, a11, a12, a13, a14, a15)) : wpX_measure post (w, h, aw, ah, fw, fh, cs, oc, li, lo, ra, co, he, wa, so, se, cr, a1, a2, a3, a4, a5, a6, a7, a8, a9, a10, a11, a12, a13, a14, a15) 1 1 := by
  unfold wpX_measure
  refine ⟨by decide, nm_r (e' := 1) (by decide) ⟨by decide, nm_r (e' := 1) (by decide) ⟨by decide, nm_r (e' := 1) (by decide) ⟨by decide, nm_r (e' := 1) (by decide) ?_⟩⟩⟩⟩
  refine pv_setPart (p := 0) rfl (by decide) ⟨by decide, ?_⟩
  refine pv_setPart (p := 1) rfl (by decide) ⟨by decide, ?_⟩
  refine pv_setPart (p := 2) rfl (by decide) ⟨by decide, ?_⟩
  refine pv_setPart (p := 3) rfl (by decide) ⟨by decide, ?_⟩
  refine pv_setPart (p := 4) rfl (by decide) (hp _ _ _ ?_)
  refine ⟨rfl, rfl, rfl, ?_, ?_⟩
  · show (1 : Int32) * 1 = 1
    decide
  · intro i h1 h5
    rcases (show i = 1 ∨ i = 2 ∨ i = 3 ∨ i = 4 by omega) with rfl | rfl | rfl | rfl
    · show (1 : Int32) * (1 / 2) = 0
      decide
    · show (1 / 2 : Int32) * 1 = 0
      decide
    · show (1 : Int32) * (1 / 2) = 0
      decide
    · show (1 / 2 : Int32) * 1 = 0
      decide
theorem pv_split {post : St2 → Prop} {x t : Int32} (hp : ∀ a11 a12 : Nat → Int32, post (w, h, aw, ah, fw, fh, cs, oc, li, lo, ra, co, he, wa, so, se, cr, a1, a2, a3, a4, a5, a6, a7, a8, a9, a10, a11, a12, a13, a14, a15)) : wpX_split post (w, h, aw, ah, fw, fh, cs, oc, li, lo, ra, co, he, wa, so, se, cr, a1, a2, a3, a4, a5, a6, a7, a8, a9, a10, a11, a12, a13, a14, a15) x 1 1 t := by
  unfold wpX_split
  refine ⟨by decide, nm_r (e' := 1) (by decide) ⟨by decide, nm_r (e' := 1) (by decide) ⟨2, br_f (by decide) ⟨2, br_f (by decide) ⟨pk_in 0 144 (by decide), nm_e (br_t (by decide) ?_)⟩⟩⟩⟩⟩
  unfold wX_split_80
  refine ⟨pk_in 0 144 (by decide), nm_e (br_t (by decide) (nm_r (e' := nI 1) (by decide) (br_t (by decide) (nm_r (e' := nI 1) (by decide) (br_t (by decide) ⟨2, br_f (by decide) ⟨2, br_f (by decide) ⟨pk_in 0 144 (by decide), nm_e (br_t (by decide) ?_)⟩⟩⟩)))))⟩
  unfold wX_split_230
  exact ⟨pk_in 0 144 (by decide), nm_e (br_t (by decide) (nm_r (e' := nI 1) (by decide) (br_t (by decide) (nm_r (e' := nI 1) (by decide) (br_t (by decide) (hp _ _))))))⟩
theorem pv_mix {post : St2 → Prop} {x : Int32} (hx : x = 0) (hp : ∀ a10 : Nat → Int32, post (w, h, aw, ah, fw, fh, cs, oc, li, lo, ra, co, he, wa, so, se, cr, a1, a2, a3, a4, a5, a6, a7, a8, a9, a10, a11, a12, a13, a14, a15)) : wpX_mix post (w, h, aw, ah, fw, fh, cs, oc, li, lo, ra, co, he, wa, so, se, cr, a1, a2, a3, a4, a5, a6, a7, a8, a9, a10, a11, a12, a13, a14, a15) x := by
  subst hx
  unfold wpX_mix
  exact ⟨pk_in 0 432 (by decide), nm_e ⟨pk_in 144 432 (by decide), nm_e ⟨pk_in 288 432 (by decide), nm_e (nm_e (nm_e (nm_e ⟨pk_in 0 432 (by decide), nm_e ⟨pk_in 144 432 (by decide), nm_e ⟨pk_in 288 432 (by decide), nm_e (hp _)⟩⟩⟩)))⟩⟩⟩
theorem pv_sa32 {post : St2 → Prop} {n c : Nat} (hc : c < 3) (h9 : a9 1 = 1) (hn : ∀ a10 a11 a12 : Nat → Int32, wX_splitAll_32 post 1 1 n (nI (c + 1)) 1 1 aw ah fw fh cs oc li lo ra co he wa so se cr a1 a2 a3 a4 a5 a6 a7 a8 a9 a10 a11 a12 a13 a14 a15) : wX_splitAll_32 post 1 1 (n + 1) (nI c) 1 1 aw ah fw fh cs oc li lo ra co he wa so se cr a1 a2 a3 a4 a5 a6 a7 a8 a9 a10 a11 a12 a13 a14 a15 := by
  have e : (144 : Int32) * nI c + 0 = nI (144 * c) := by rw [Int32.add_zero]; exact pk_mul 144 c
  refine br_f (nI_ge (b := 3) hc (by decide)) ⟨2, br_f (by decide) ⟨pk_in (144 * c) 432 (by omega) e, pk_in 0 144 (by decide), nm_e (nm_r (e' := nI 1) (by decide) (br_t (by decide) ?_))⟩⟩
  refine pv_split (fun b11 b12 => pv_split (fun d11 d12 => ⟨2, br_f (by rw [h9]; decide) ⟨pk_in 0 144 (by decide), pk_in (144 * c) 432 (by omega) e, nm_e (nm_r (e' := nI 1) (by decide) (br_t (by rw [h9]; decide) (nm_r (nI_1 c) (hn _ _ _))))⟩⟩))
theorem pv_splitAll {post : St2 → Prop} (hp : ∀ a7 a8 a9 a10 a11 a12 : Nat → Int32, pv_M a7 a8 a9 → post (1, 1, aw, ah, fw, fh, cs, oc, li, lo, ra, co, he, wa, so, se, cr, a1, a2, a3, a4, a5, a6, a7, a8, a9, a10, a11, a12, a13, a14, a15)) : wpX_splitAll post (1, 1, aw, ah, fw, fh, cs, oc, li, lo, ra, co, he, wa, so, se, cr, a1, a2, a3, a4, a5, a6, a7, a8, a9, a10, a11, a12, a13, a14, a15) := by
  unfold wpX_splitAll
  refine pv_measure (fun a7 a8 a9 hM => ⟨by decide, nm_r (e' := 1) (by decide) ⟨by decide, nm_r (e' := 1) (by decide) ⟨4, ?_⟩⟩⟩)
  refine pv_sa32 (c := 0) (by decide) hM.2.2.2.1 (fun b10 b11 b12 => ?_)
  refine pv_sa32 (c := 1) (by decide) hM.2.2.2.1 (fun c10 c11 c12 => ?_)
  refine pv_sa32 (c := 2) (by decide) hM.2.2.2.1 (fun d10 d11 d12 => ?_)
  refine br_t (by decide) ⟨2, br_f (by decide) (pv_mix rfl (fun e10 => nm_r (e' := nI 1) (by decide) (br_t (by decide) (hp _ _ _ _ _ _ hM))))⟩
end PVPLANES
end
section
/-! ===== few colours: a picture of one place ===== -/
section PVPALETTE
variable {w h aw ah fw fh cs oc li : Int32} {lo ra co : Int64} {he wa so se cr : Int32} {a1 a2 a3 a4 a5 a6 a7 a8 a9 a10 a11 a12 a13 a14 a15 : Nat → Int32}
theorem pv_indexOf0 {post : Int32 → Prop} {v : Int32} (hp : post 0) : wpX_indexOf post (w, h, aw, ah, fw, fh, 0, oc, li, lo, ra, co, he, wa, so, se, cr, a1, a2, a3, a4, a5, a6, a7, a8, a9, a10, a11, a12, a13, a14, a15) v := ⟨1, br_t (by decide) hp⟩
theorem pv_insert0 {post : St2 → Prop} {v : Int32} (hp : post (w, h, aw, ah, fw, fh, 1, oc, li, lo, ra, co, he, wa, so, se, cr, a1, a2, a3, a4, a5, a6, a7, a8, a9, a10, a11, a12, upd a13 0 v, a14, a15)) : wpX_insertColour post (w, h, aw, ah, fw, fh, 0, oc, li, lo, ra, co, he, wa, so, se, cr, a1, a2, a3, a4, a5, a6, a7, a8, a9, a10, a11, a12, a13, a14, a15) 0 v :=
  ⟨1, br_t (by decide) ⟨pk_in 0 16 (by decide), nm_r (e' := upd a13 0 v) (by rw [show (0 : Int32).toNatClampNeg = 0 from by decide]) (nm_r (e' := 1) (by decide) hp)⟩⟩
theorem pv_collect {post : Int32 → St2 → Prop} (hp : post 1 (1, 1, aw, ah, fw, fh, 1, oc, li, lo, ra, co, he, wa, so, se, cr, a1, a2, a3, a4, a5, a6, a7, a8, a9, a10, a11, a12, upd a13 0 (pv_col a1 0), a14, a15)) : wpX_collect post (1, 1, aw, ah, fw, fh, cs, oc, li, lo, ra, co, he, wa, so, se, cr, a1, a2, a3, a4, a5, a6, a7, a8, a9, a10, a11, a12, a13, a14, a15) := by
  unfold wpX_collect
  refine ⟨2, br_f (by decide) (pv_colourAt0 rfl (pv_indexOf0 (br_t rfl ?_)))⟩
  unfold wX_collect_50
  exact br_f (by decide) (pv_insert0 (nm_r (e' := nI 1) (by decide) (br_t (by decide) hp)))
theorem pv_indexOf1 {post : Int32 → Prop} {v : Int32} (hv : a13 0 = v) (hp : post 0) : wpX_indexOf post (w, h, aw, ah, fw, fh, 1, oc, li, lo, ra, co, he, wa, so, se, cr, a1, a2, a3, a4, a5, a6, a7, a8, a9, a10, a11, a12, a13, a14, a15) v :=
  ⟨1, br_f (by decide) ⟨pk_in 0 16 (by decide), br_t (by show v ≤ a13 0; rw [hv]; exact Int32.le_refl _) hp⟩⟩
theorem pv_putIndex {post : St2 → Prop} {b : Nat} (hb : b < 1000) (hC : pv_C oc wa ra a14 b)
    (hp : ∀ (oc : Int32) (lo ra : Int64) (he wa : Int32) (a14 a15 : Nat → Int32), pv_C oc wa ra a14 (b + 8) → post (w, h, aw, ah, fw, fh, cs, oc, li, lo, ra, co, he, wa, so, se, cr, a1, a2, a3, a4, a5, a6, a7, a8, a9, a10, a11, a12, a13, a14, a15)) : wpX_putIndex post (w, h, aw, ah, fw, fh, cs, oc, li, lo, ra, co, he, wa, so, se, cr, a1, a2, a3, a4, a5, a6, a7, a8, a9, a10, a11, a12, a13, a14, a15) 16 0 := by
  unfold wpX_putIndex
  refine ⟨5, br_f (by decide) (nm_r (e' := 0) (by decide) (pv_putBit (k := 413) (by decide) (by decide) (by omega) hC (fun oc lo ra he wa a14 a15 h1 => nm_r (e' := 2) (by decide) (nm_r (e' := 2) (by decide) ?_))))⟩
  refine br_f (by decide) (nm_r (e' := 0) (by decide) (pv_putBit (k := 414) (by decide) (by decide) (by omega) h1 (fun oc lo ra he wa a14 a15 h2 => nm_r (e' := 4) (by decide) (nm_r (e' := 1) (by decide) ?_))))
  refine br_f (by decide) (nm_r (e' := 0) (by decide) (pv_putBit (k := 416) (by decide) (by decide) (by omega) h2 (fun oc lo ra he wa a14 a15 h3 => nm_r (e' := 8) (by decide) (nm_r (e' := 0) (by decide) ?_))))
  refine br_f (by decide) (nm_r (e' := 0) (by decide) (pv_putBit (k := 420) (by decide) (by decide) (by omega) h3 (fun oc lo ra he wa a14 a15 h4 => nm_r (e' := 16) (by decide) (nm_r (e' := -1) (by decide) ?_))))
  exact br_t (by decide) (hp _ _ _ _ _ _ _ (pv_Cm h4 (by omega)))
theorem pv_writePalette {post : St2 → Prop} {b : Nat} (hb : b < 500) (h13 : a13 0 = pv_col a1 0) (hC : pv_C oc wa ra a14 b)
    (hp : ∀ (oc : Int32) (lo ra : Int64) (he wa : Int32) (a14 a15 : Nat → Int32), pv_C oc wa ra a14 (b + 64) → post (1, 1, aw, ah, fw, fh, 1, oc, li, lo, ra, co, he, wa, so, se, cr, a1, a2, a3, a4, a5, a6, a7, a8, a9, a10, a11, a12, a13, a14, a15)) : wpX_writePalette post (1, 1, aw, ah, fw, fh, 1, oc, li, lo, ra, co, he, wa, so, se, cr, a1, a2, a3, a4, a5, a6, a7, a8, a9, a10, a11, a12, a13, a14, a15) := by
  unfold wpX_writePalette
  refine pv_putPlain (e := 4) rfl (by omega) (by omega) hC (fun oc lo ra he wa a15 h1 => ⟨2, br_f (by decide) ⟨pk_in 0 16 (by decide), ?_⟩⟩)
  refine pv_putPlain (e := 24) rfl (by omega) (by omega) h1 (fun oc lo ra he wa a15 h2 => nm_r (e' := nI 1) (by decide) (br_t (by decide) ⟨2, br_f (by decide) (pv_colourAt0 rfl (pv_indexOf1 h13 ?_))⟩))
  exact pv_putIndex (by omega) h2 (fun oc lo ra he wa a14 a15 h3 => nm_r (e' := nI 1) (by decide) (br_t (by decide) (hp _ _ _ _ _ _ _ (pv_Cm h3 (by omega)))))
end PVPALETTE
end
section
/-! ===== packing a picture of one place ===== -/
section PVPACK
variable {w h aw ah fw fh cs oc li : Int32} {lo ra co : Int64} {he wa so se cr : Int32} {a1 a2 a3 a4 a5 a6 a7 a8 a9 a10 a11 a12 a13 a14 a15 : Nat → Int32}
theorem pv_packRaw {post : St2 → Prop} {k : Nat} (hk : k < 4) (hp : post (1, 1, aw, ah, fw, fh, cs, oc, li, lo, ra, co, he, wa, so, se, cr, a1, a2, a3, upd (upd (upd (upd a4 (512 * k + 6) (a1 0)) (512 * k + 7) (a1 144)) (512 * k + 8) (a1 288)) (512 * k + 1) 0, upd a5 k 9, a6, a7, a8, a9, a10, a11, a12, a13, a14, a15)) : wpX_packRaw post (1, 1, aw, ah, fw, fh, cs, oc, li, lo, ra, co, he, wa, so, se, cr, a1, a2, a3, a4, a5, a6, a7, a8, a9, a10, a11, a12, a13, a14, a15) (nI k) := by
  unfold wpX_packRaw
  refine ⟨2, br_f (by decide) ⟨4, br_f (by decide) ⟨pk_in 0 432 (by decide), pv_inb hk 6 (by decide) rfl, nm_r (e' := upd a4 (512 * k + 6) (a1 0)) (by rw [pv_at hk (x := 6) (i := 6) (by decide) rfl]; rfl) (nm_r (e' := nI 7) (by decide) (nm_r (e' := nI 1) (by decide) ?_))⟩⟩⟩
  refine br_f (by decide) ⟨pk_in 144 432 (by decide), pv_inb hk 7 (by decide) rfl, nm_r (e' := upd (upd a4 (512 * k + 6) (a1 0)) (512 * k + 7) (a1 144)) (by rw [pv_at hk (i := 7) (by decide) rfl]; rfl) (nm_r (e' := nI 8) (by decide) (nm_r (e' := nI 2) (by decide) ?_))⟩
  refine br_f (by decide) ⟨pk_in 288 432 (by decide), pv_inb hk 8 (by decide) rfl, nm_r (e' := upd (upd (upd a4 (512 * k + 6) (a1 0)) (512 * k + 7) (a1 144)) (512 * k + 8) (a1 288)) (by rw [pv_at hk (i := 8) (by decide) rfl]; rfl) (nm_r (e' := nI 9) (by decide) (nm_r (e' := nI 3) (by decide) ?_))⟩
  refine br_t (by decide) (nm_r (e' := nI 1) (by decide) (br_t (by decide) ⟨pk_in k 4 hk, nm_r (e' := upd a5 k 9) (by rw [nI_clamp (by omega)]; rfl) ⟨pv_inb hk 1 (by decide) rfl, nm_r (by rw [pv_at hk (x := 1) (i := 1) (by decide) rfl]) hp⟩⟩))
theorem pv_byte (c x s : Int32) (h : 8 * (5 - x) = s) : (c >>> ((8 * (5 - x)) &&& 31)) &&& 255 = (c >>> (s &&& 31)) &&& 255 := by rw [h]
theorem pv_pi96 {post : St2 → Prop} {k : Nat} {c : Int32} (hk : k < 4)
    (hp : ∀ a6 : Nat → Int32, post (w, h, aw, ah, fw, fh, cs, oc, li, lo, ra, co, he, wa, so, se, cr, a1, a2, a3, upd (upd (upd (upd a4 (512 * k + 2) ((c >>> ((24 : Int32) &&& 31)) &&& 255)) (512 * k + 3) ((c >>> ((16 : Int32) &&& 31)) &&& 255)) (512 * k + 4) ((c >>> ((8 : Int32) &&& 31)) &&& 255)) (512 * k + 5) (c &&& 255), a5, a6, a7, a8, a9, a10, a11, a12, a13, a14, a15)) :
    ∃ n, wX_packInto_96 post (nI k) c w h aw ah fw fh cs oc li lo ra co he wa so se cr n 2 a1 a2 a3 a4 a5 a6 a7 a8 a9 a10 a11 a12 a13 a14 a15 := by
  refine ⟨5, br_f (by decide) ⟨pv_inb hk 2 (by decide) rfl, nm_r (by rw [pv_at hk (x := 2) (i := 2) (by decide) rfl, pv_byte c _ 24 (by decide)]) (nm_r (e' := nI 3) (by decide) ?_)⟩⟩
  refine br_f (by decide) ⟨pv_inb hk 3 (by decide) rfl, nm_r (by rw [pv_at hk (i := 3) (by decide) rfl, pv_byte c _ 16 (by decide)]) (nm_r (e' := nI 4) (by decide) ?_)⟩
  refine br_f (by decide) ⟨pv_inb hk 4 (by decide) rfl, nm_r (by rw [pv_at hk (i := 4) (by decide) rfl, pv_byte c _ 8 (by decide)]) (nm_r (e' := nI 5) (by decide) ?_)⟩
  refine br_f (by decide) ⟨pv_inb hk 5 (by decide) rfl, nm_r (by rw [pv_at hk (i := 5) (by decide) rfl, pv_byte c _ 0 (by decide), sb_shr0]) (nm_r (e' := nI 6) (by decide) ?_)⟩
  exact br_t (by decide) ⟨pk_in k 4 hk, nm_e (hp _)⟩
theorem pv_SndI {a : Nat → Int32} {k : Nat} {R G B c : Int32} (h0 : a (512 * k) = 17) (h1 : a (512 * k + 1) = 0) (h6 : a (512 * k + 6) = R) (h7 : a (512 * k + 7) = G) (h8 : a (512 * k + 8) = B) (hc : c = pv_cf a k 9 ^^^ (-1)) :
    pv_Snd (upd (upd (upd (upd a (512 * k + 2) ((c >>> ((24 : Int32) &&& 31)) &&& 255)) (512 * k + 3) ((c >>> ((16 : Int32) &&& 31)) &&& 255)) (512 * k + 4) ((c >>> ((8 : Int32) &&& 31)) &&& 255)) (512 * k + 5) (c &&& 255)) k R G B := by
  refine ⟨?_, ?_, ?_, ?_, ?_, ?_⟩
  · rw [pk_un (by omega), pk_un (by omega), pk_un (by omega), pk_un (by omega), h0]
  · rw [pk_un (by omega), pk_un (by omega), pk_un (by omega), pk_un (by omega), h1]
  · rw [pk_un (by omega), pk_un (by omega), pk_un (by omega), pk_un (by omega), h6]
  · rw [pk_un (by omega), pk_un (by omega), pk_un (by omega), pk_un (by omega), h7]
  · rw [pk_un (by omega), pk_un (by omega), pk_un (by omega), pk_un (by omega), h8]
  · rw [pv_cfE (b := a) 9 (fun i hi hz => by rw [pk_un (by omega), pk_un (by omega), pk_un (by omega), pk_un (by omega)]), ← hc]
    rw [pk_us, pk_un (j := 512 * k + 2) (by omega), pk_un (j := 512 * k + 2) (by omega), pk_un (j := 512 * k + 2) (by omega), pk_us, pk_un (j := 512 * k + 3) (by omega), pk_un (j := 512 * k + 3) (by omega), pk_us, pk_un (j := 512 * k + 4) (by omega), pk_us]
    exact pv_chk c
theorem pv_pi66 {post : St2 → Prop} {k : Nat} {R G B : Int32} (hk : k < 4) (hu : a5 k = 9) (h1 : a4 (512 * k + 1) = 0) (h6 : a4 (512 * k + 6) = R) (h7 : a4 (512 * k + 7) = G) (h8 : a4 (512 * k + 8) = B)
    (hp : ∀ (cr : Int32) (a4 a6 : Nat → Int32), pv_Snd a4 k R G B → post (1, 1, aw, ah, fw, fh, cs, oc, li, lo, ra, co, he, wa, so, se, cr, a1, a2, a3, a4, a5, a6, a7, a8, a9, a10, a11, a12, a13, a14, a15)) : wX_packInto_66 post (nI k) 1 1 aw ah fw fh cs oc li lo ra co he wa so se cr a1 a2 a3 a4 a5 a6 a7 a8 a9 a10 a11 a12 a13 a14 a15 := by
  unfold wX_packInto_66
  refine ⟨pk_in (512 * k) 2048 (by omega) (pk_mul 512 k), nm_r (e' := upd a4 (512 * k) 17) (by rw [show (512 : Int32) * nI k = nI (512 * k) from pk_mul 512 k, nI_clamp (by omega)]; rfl) ?_⟩
  refine pv_checkOf hk hu (pv_pi96 hk (fun b6 => hp _ _ _ (pv_SndI ?_ ?_ ?_ ?_ ?_ rfl)))
  · rw [pk_us]
  · rw [pk_un (by omega), h1]
  · rw [pk_un (by omega), h6]
  · rw [pk_un (by omega), h7]
  · rw [pk_un (by omega), h8]
theorem pv_tis {post : St2 → Prop} {k m : Nat} {t : Int32} (hk : k < 4) (hu : a5 k = 9) (h5 : 5 ≤ m) (hm : m ≤ 640) (hp : post (w, h, aw, ah, fw, fh, cs, nI m, li, lo, ra, co, he, wa, so, se, cr, a1, a2, a3, a4, a5, a6, a7, a8, a9, a10, a11, a12, a13, a14, a15)) : wpX_takeIfSmaller post (w, h, aw, ah, fw, fh, cs, nI m, li, lo, ra, co, he, wa, so, se, cr, a1, a2, a3, a4, a5, a6, a7, a8, a9, a10, a11, a12, a13, a14, a15) (nI k) t :=
  ⟨pk_in k 4 hk, br_f (by rw [nI_clamp (by omega), hu, show (6 : Int32) + nI m = nI (6 + m) from nI_add 6 m]; exact nI_nlt (b := 9) (by omega) (by omega)) hp⟩
theorem pv_pi34 {post : St2 → Prop} {k : Nat} {t R G B : Int32} (hk : k < 4) (hu : a5 k = 9) (h1 : a4 (512 * k + 1) = 0) (h6 : a4 (512 * k + 6) = R) (h7 : a4 (512 * k + 7) = G) (h8 : a4 (512 * k + 8) = B)
    (hp : ∀ (cs oc : Int32) (lo ra : Int64) (he wa cr : Int32) (a4 a6 a13 a14 a15 : Nat → Int32), pv_Snd a4 k R G B → post (1, 1, aw, ah, fw, fh, cs, oc, li, lo, ra, co, he, wa, so, se, cr, a1, a2, a3, a4, a5, a6, a7, a8, a9, a10, a11, a12, a13, a14, a15)) : wX_packInto_34 post (nI k) t 1 1 aw ah fw fh cs oc li lo ra co he wa so se cr a1 a2 a3 a4 a5 a6 a7 a8 a9 a10 a11 a12 a13 a14 a15 := by
  unfold wX_packInto_34
  refine br_c (fun _ => ?_) (fun _ => pv_pi66 hk hu h1 h6 h7 h8 (fun cr a4 a6 h => hp _ _ _ _ _ _ _ _ _ _ _ _ h))
  refine pv_collect (br_f (by decide) ?_)
  refine pv_begin (fun oc lo ra he wa a14 hC => ?_)
  refine pv_writePalette (by omega) pk_us hC (fun oc lo ra he wa a14 a15 hC => ?_)
  refine pv_finish (by omega) hC (fun m lo he wa a15 hm1 hm2 => ?_)
  refine pv_tis hk hu hm1 hm2 ?_
  exact pv_pi66 hk hu h1 h6 h7 h8 (fun cr a4 a6 h => hp _ _ _ _ _ _ _ _ _ _ _ _ h)
theorem pv_packInto {post : St2 → Prop} {k : Nat} {t : Int32} (hk : k < 4)
    (hp : ∀ (cs oc : Int32) (lo ra : Int64) (he wa cr : Int32) (a4 a6 a7 a8 a9 a10 a11 a12 a13 a14 a15 : Nat → Int32), pv_Snd a4 k (a1 0) (a1 144) (a1 288) → post (1, 1, aw, ah, fw, fh, cs, oc, li, lo, ra, co, he, wa, so, se, cr, a1, a2, a3, a4, upd a5 k 9, a6, a7, a8, a9, a10, a11, a12, a13, a14, a15)) : wpX_packInto post (1, 1, aw, ah, fw, fh, cs, oc, li, lo, ra, co, he, wa, so, se, cr, a1, a2, a3, a4, a5, a6, a7, a8, a9, a10, a11, a12, a13, a14, a15) (nI k) t := by
  unfold wpX_packInto
  refine pv_packRaw hk ?_
  have hu : upd a5 k 9 k = 9 := pk_us
  have g : ∀ b : Nat → Int32, b = upd (upd (upd (upd a4 (512 * k + 6) (a1 0)) (512 * k + 7) (a1 144)) (512 * k + 8) (a1 288)) (512 * k + 1) 0 → b (512 * k + 1) = 0 ∧ b (512 * k + 6) = a1 0 ∧ b (512 * k + 7) = a1 144 ∧ b (512 * k + 8) = a1 288 := by
    intro b hb
    subst hb
    refine ⟨pk_us, ?_, ?_, ?_⟩
    · rw [pk_un (by omega), pk_un (by omega), pk_un (by omega), pk_us]
    · rw [pk_un (by omega), pk_un (by omega), pk_us]
    · rw [pk_un (by omega), pk_us]
  obtain ⟨g1, g6, g7, g8⟩ := g _ rfl
  refine br_c (fun _ => ?_) (fun _ => pv_pi34 hk hu g1 g6 g7 g8 (fun _ _ _ _ _ _ _ _ _ _ _ _ h => hp _ _ _ _ _ _ _ _ _ _ _ _ _ _ _ _ _ _ h))
  refine pv_splitAll (fun a7 a8 a9 a10 a11 a12 hM => ?_)
  refine pv_begin (fun oc lo ra he wa a14 hC => ?_)
  refine pv_writePlanes hM (by omega) hC (fun oc lo ra he wa a14 a15 hC => ?_)
  refine pv_finish (by omega) hC (fun m lo he wa a15 hm1 hm2 => ?_)
  refine pv_tis hk hu hm1 hm2 ?_
  exact pv_pi34 hk hu g1 g6 g7 g8 (fun _ _ _ _ _ _ _ _ _ _ _ _ h => hp _ _ _ _ _ _ _ _ _ _ _ _ _ _ _ _ _ _ h)
theorem pv_packS {post : Int32 → St2 → Prop} {k : Nat} {t : Int32} (hk : k < 4)
    (hp : ∀ (cs oc : Int32) (lo ra : Int64) (he wa cr : Int32) (a4 a6 a7 a8 a9 a10 a11 a12 a13 a14 a15 : Nat → Int32), pv_Snd a4 k (a1 0) (a1 144) (a1 288) → post 0 (1, 1, aw, ah, fw, fh, cs, oc, li, lo, ra, co, he, wa, so, se, cr, a1, a2, a3, a4, upd a5 k 9, a6, a7, a8, a9, a10, a11, a12, a13, a14, a15)) : wpX_pack post (1, 1, aw, ah, fw, fh, cs, oc, li, lo, ra, co, he, wa, so, se, cr, a1, a2, a3, a4, a5, a6, a7, a8, a9, a10, a11, a12, a13, a14, a15) (nI k) t := by
  unfold wpX_pack
  exact pv_slotY hk (br_f (by decide) (pv_packInto hk hp))
theorem pv_packN {post : Int32 → St2 → Prop} {x t : Int32} (hb : x < 0 ∨ 4 ≤ x) (hp : post (-1) (w, h, aw, ah, fw, fh, cs, oc, li, lo, ra, co, he, wa, so, se, cr, a1, a2, a3, a4, a5, a6, a7, a8, a9, a10, a11, a12, a13, a14, a15)) : wpX_pack post (w, h, aw, ah, fw, fh, cs, oc, li, lo, ra, co, he, wa, so, se, cr, a1, a2, a3, a4, a5, a6, a7, a8, a9, a10, a11, a12, a13, a14, a15) x t := by
  unfold wpX_pack
  exact pv_slotN hb (br_t rfl hp)
end PVPACK
end
section
/-! ===== unpacking, peeking, comparing: slot k holds a sound picture of one place ===== -/
section PVUNPACK
variable {w h aw ah fw fh cs oc li : Int32} {lo ra co : Int64} {he wa so se cr : Int32} {a1 a2 a3 a4 a5 a6 a7 a8 a9 a10 a11 a12 a13 a14 a15 : Nat → Int32}
theorem pv_readRaw {post : St2 → Prop} {k : Nat} (hk : k < 4) (hp : post (1, 1, aw, ah, fw, fh, cs, oc, li, lo, ra, co, he, wa, so, se, cr, upd (upd (upd a1 0 (a4 (512 * k + 6))) 144 (a4 (512 * k + 7))) 288 (a4 (512 * k + 8)), a2, a3, a4, a5, a6, a7, a8, a9, a10, a11, a12, a13, a14, a15)) : wpX_readRaw post (1, 1, aw, ah, fw, fh, cs, oc, li, lo, ra, co, he, wa, so, se, cr, a1, a2, a3, a4, a5, a6, a7, a8, a9, a10, a11, a12, a13, a14, a15) (nI k) := by
  unfold wpX_readRaw
  refine nm_r (e' := nI (512 * k + 6)) (pv_ix k 6) ⟨2, br_f (by decide) ⟨4, br_f (by decide) ⟨pk_in (512 * k + 6) 2048 (by omega), pk_in 0 432 (by decide), nm_r (e' := upd a1 0 (a4 (512 * k + 6))) (by rw [nI_clamp (by omega)]; rfl) (nm_r (nI_1 _) (nm_r (e' := nI 1) (by decide) ?_))⟩⟩⟩
  refine br_f (by decide) ⟨pk_in (512 * k + 6 + 1) 2048 (by omega), pk_in 144 432 (by decide), nm_r (e' := upd (upd a1 0 (a4 (512 * k + 6))) 144 (a4 (512 * k + 7))) (by rw [nI_clamp (by omega)]; rfl) (nm_r (nI_1 _) (nm_r (e' := nI 2) (by decide) ?_))⟩
  refine br_f (by decide) ⟨pk_in (512 * k + 6 + 1 + 1) 2048 (by omega), pk_in 288 432 (by decide), nm_r (e' := upd (upd (upd a1 0 (a4 (512 * k + 6))) 144 (a4 (512 * k + 7))) 288 (a4 (512 * k + 8))) (by rw [nI_clamp (by omega)]; rfl) (nm_r (nI_1 _) (nm_r (e' := nI 3) (by decide) ?_))⟩
  exact br_t (by decide) (nm_r (e' := nI 1) (by decide) (br_t (by decide) hp))
theorem pv_unpackFrom {post : St2 → Prop} {k : Nat} {R G B : Int32} (hk : k < 4) (hs : pv_Snd a4 k R G B) (hp : ∀ a1 : Nat → Int32, a1 0 = R → a1 144 = G → a1 288 = B → post (1, 1, aw, ah, fw, fh, cs, oc, li, lo, ra, co, he, wa, so, se, cr, a1, a2, a3, a4, a5, a6, a7, a8, a9, a10, a11, a12, a13, a14, a15)) : wpX_unpackFrom post (w, h, aw, ah, fw, fh, cs, oc, li, lo, ra, co, he, wa, so, se, cr, a1, a2, a3, a4, a5, a6, a7, a8, a9, a10, a11, a12, a13, a14, a15) (nI k) 0 := by
  have e0 : (512 * nI k).toNatClampNeg = 512 * k := by rw [show (512 : Int32) * nI k = nI (512 * k) from pk_mul 512 k, nI_clamp (by omega)]
  have i0 : vp_in (512 * nI k) 2048 := pk_in (512 * k) 2048 (by omega) (pk_mul 512 k)
  unfold wpX_unpackFrom
  refine ⟨i0, nm_r (e' := 1) (by rw [e0, hs.1]; decide) ⟨i0, nm_r (e' := 1) (by rw [e0, hs.1]; decide) ⟨pv_inb hk 1 (by decide) rfl, nm_r (e' := 0) (by rw [pv_at hk (x := 1) (i := 1) (by decide) rfl]; exact hs.2.1) (br_f (by decide) (br_f (by decide) ?_))⟩⟩⟩
  refine pv_readRaw hk ⟨1, br_t (by decide) (hp _ ?_ ?_ ?_)⟩
  · rw [pk_un (by omega), pk_un (by omega), pk_us, hs.2.2.1]
  · rw [pk_un (by omega), pk_us, hs.2.2.2.1]
  · rw [pk_us, hs.2.2.2.2.1]
theorem pv_exchange {post : St2 → Prop} (hp : ∀ a1 a2 : Nat → Int32, post (aw, ah, w, h, fw, fh, cs, oc, li, lo, ra, co, he, wa, so, se, cr, a1, a2, a3, a4, a5, a6, a7, a8, a9, a10, a11, a12, a13, a14, a15)) : wpX_exchange post (w, h, aw, ah, fw, fh, cs, oc, li, lo, ra, co, he, wa, so, se, cr, a1, a2, a3, a4, a5, a6, a7, a8, a9, a10, a11, a12, a13, a14, a15) := by
  unfold wpX_exchange
  refine pk_loop (σ := (Nat → Int32) × (Nat → Int32)) (fun n i s => wX_exchange_38 post aw ah w h fw fh cs oc li lo ra co he wa so se cr n (nI i) s.1 s.2 a3 a4 a5 a6 a7 a8 a9 a10 a11 a12 a13 a14 a15) (fun _ _ => True) 432 0 (a1, a2) (by omega) trivial ?_ ?_
  · intro n s _
    exact pk_le 432 432 (fun _ => hp s.1 s.2) (fun z => absurd z (by omega))
  · intro n i s hi _ hw
    exact pk_le 432 i (fun z => absurd z (by omega)) (fun _ => ⟨pk_in i 432 hi, nm_e ⟨pk_in i 432 hi, pk_in i 432 hi, nm_e ⟨pk_in i 432 hi, nm_e (nm_r (nI_1 i) (hw (_, _) trivial))⟩⟩⟩)
theorem pv_keepFirst {post : St2 → Prop} (hp : ∀ a3 : Nat → Int32, (∀ j, j < 432 → a3 j = a1 j) → post (w, h, aw, ah, w, h, cs, oc, li, lo, ra, co, he, wa, so, se, cr, a1, a2, a3, a4, a5, a6, a7, a8, a9, a10, a11, a12, a13, a14, a15)) : wpX_keepFirst post (w, h, aw, ah, fw, fh, cs, oc, li, lo, ra, co, he, wa, so, se, cr, a1, a2, a3, a4, a5, a6, a7, a8, a9, a10, a11, a12, a13, a14, a15) := by
  unfold wpX_keepFirst
  refine pk_loop (fun n i s => wX_keepFirst_18 post w h aw ah w h cs oc li lo ra co he wa so se cr n (nI i) a1 a2 s a4 a5 a6 a7 a8 a9 a10 a11 a12 a13 a14 a15) (fun i s => ∀ j, j < i → s j = a1 j) 432 0 a3 (by omega) (fun j hj => absurd hj (by omega)) ?_ ?_
  · intro n s h
    exact pk_le 432 432 (fun _ => hp s h) (fun z => absurd z (by omega))
  · intro n i s hi h hw
    refine pk_le 432 i (fun z => absurd z (by omega)) (fun _ => ⟨pk_in i 432 hi, pk_in i 432 hi, nm_e (nm_r (nI_1 i) (hw _ ?_))⟩)
    intro j hj
    rw [nI_clamp (by omega)]
    by_cases e : j = i
    · rw [e, pk_us]
    · rw [pk_un e]
      exact h j (by omega)
theorem pv_isFirst {post : Int32 → Prop} (h0 : a1 0 = a3 0) (h1 : a1 144 = a3 144) (h2 : a1 288 = a3 288) (hp : post 1) : wpX_isFirst post (1, 1, aw, ah, 1, 1, cs, oc, li, lo, ra, co, he, wa, so, se, cr, a1, a2, a3, a4, a5, a6, a7, a8, a9, a10, a11, a12, a13, a14, a15) := by
  unfold wpX_isFirst
  refine br_t rfl (br_t rfl ⟨4, br_f (by decide) ⟨by decide, by decide, nm_r (e' := nI 0) (by decide) ⟨pk_in 0 432 (by decide), pk_in 0 432 (by decide), br_t h0 (nm_r (e' := nI 1) (by decide) ?_)⟩⟩⟩)
  refine br_f (by decide) ⟨by decide, by decide, nm_r (e' := nI 144) (by decide) ⟨pk_in 144 432 (by decide), pk_in 144 432 (by decide), br_t h1 (nm_r (e' := nI 2) (by decide) ?_)⟩⟩
  refine br_f (by decide) ⟨by decide, by decide, nm_r (e' := nI 288) (by decide) ⟨pk_in 288 432 (by decide), pk_in 288 432 (by decide), br_t h2 (nm_r (e' := nI 3) (by decide) ?_)⟩⟩
  exact br_t (by decide) hp
def pv_rgb (R G B : Int32) : Int32 := ((R <<< ((16 : Int32) &&& 31)) ||| (G <<< ((8 : Int32) &&& 31))) ||| B
theorem pv_colR {a : Nat → Int32} {R G B : Int32} (h0 : a 0 = R) (h1 : a 144 = G) (h2 : a 288 = B) : pv_col a 0 = pv_rgb R G B := by
  subst h0 h1 h2
  rfl
theorem pv_peekS {post : Int32 → St2 → Prop} {k : Nat} {R G B x y : Int32} (hk : k < 4) (hu : a5 k = 9) (hs : pv_Snd a4 k R G B)
    (h1 : x = 0 ∧ y = 0 → ∀ (aw ah cr : Int32) (a1 a2 : Nat → Int32), post (pv_rgb R G B) (w, h, aw, ah, fw, fh, cs, oc, li, lo, ra, co, he, wa, so, se, cr, a1, a2, a3, a4, a5, a6, a7, a8, a9, a10, a11, a12, a13, a14, a15)) (h0 : ¬ (x = 0 ∧ y = 0) → ∀ (aw ah cr : Int32) (a1 a2 : Nat → Int32), post (-1) (w, h, aw, ah, fw, fh, cs, oc, li, lo, ra, co, he, wa, so, se, cr, a1, a2, a3, a4, a5, a6, a7, a8, a9, a10, a11, a12, a13, a14, a15)) : wpX_peek post (w, h, aw, ah, fw, fh, cs, oc, li, lo, ra, co, he, wa, so, se, cr, a1, a2, a3, a4, a5, a6, a7, a8, a9, a10, a11, a12, a13, a14, a15) (nI k) x y := by
  unfold wpX_peek
  refine pv_trS hk hu hs (fun c => br_t (by decide) ?_)
  refine pv_exchange (fun b1 b2 => ?_)
  refine pv_unpackFrom hk hs (fun d1 e0 e1 e2 => ?_)
  refine pv_get1 (fun z => ?_) (fun z => ?_)
  · refine pv_exchange (fun f1 f2 => ?_)
    exact ek_v (P := fun r => post r _) (pv_colR e0 e1 e2) (h1 z _ _ _ _ _)
  · refine pv_exchange (fun f1 f2 => ?_)
    exact h0 z _ _ _ _ _
theorem pv_sameS {post : Int32 → St2 → Prop} {k : Nat} {R G B : Int32} (hk : k < 4) (hu : a5 k = 9) (hs : pv_Snd a4 k R G B)
    (hp : ∀ (aw ah fw fh cr : Int32) (a1 a2 a3 : Nat → Int32), post 1 (w, h, aw, ah, fw, fh, cs, oc, li, lo, ra, co, he, wa, so, se, cr, a1, a2, a3, a4, a5, a6, a7, a8, a9, a10, a11, a12, a13, a14, a15)) : wpX_same post (w, h, aw, ah, fw, fh, cs, oc, li, lo, ra, co, he, wa, so, se, cr, a1, a2, a3, a4, a5, a6, a7, a8, a9, a10, a11, a12, a13, a14, a15) (nI k) (nI k) := by
  have hn : ¬ a5 (nI k).toNatClampNeg = 0 := by rw [nI_clamp (by omega), hu]; decide
  unfold wpX_same
  refine pv_slotY hk (br_f (by decide) (pv_slotY hk (br_f (by decide) ⟨pk_in k 4 hk, br_f hn ⟨pk_in k 4 hk, br_f hn ?_⟩⟩)))
  refine pv_isSound hk hu hs (fun c1 => br_f (by decide) ?_)
  refine pv_isSound hk hu hs (fun c2 => br_f (by decide) ?_)
  refine pv_exchange (fun b1 b2 => ?_)
  refine pv_unpackFrom hk hs (fun d1 e0 e1 e2 => ?_)
  refine pv_keepFirst (fun d3 hd => ?_)
  refine pv_unpackFrom hk hs (fun f1 g0 g1 g2 => ?_)
  refine pv_isFirst (by rw [g0, hd 0 (by omega), e0]) (by rw [g1, hd 144 (by omega), e1]) (by rw [g2, hd 288 (by omega), e2]) (br_f (by decide) ?_)
  unfold wX_same_88
  exact pv_exchange (fun i1 i2 => hp _ _ _ _ _ _ _ _)
/-- one slot is full, the other isn't -/
theorem pv_sameO {post : Int32 → St2 → Prop} {j k : Nat} (hj : j < 4) (hk : k < 4) (h0 : a5 j = 0) (hp : post (-2) (w, h, aw, ah, fw, fh, cs, oc, li, lo, ra, co, he, wa, so, se, cr, a1, a2, a3, a4, a5, a6, a7, a8, a9, a10, a11, a12, a13, a14, a15)) : wpX_same post (w, h, aw, ah, fw, fh, cs, oc, li, lo, ra, co, he, wa, so, se, cr, a1, a2, a3, a4, a5, a6, a7, a8, a9, a10, a11, a12, a13, a14, a15) (nI j) (nI k) := by
  unfold wpX_same
  exact pv_slotY hj (br_f (by decide) (pv_slotY hk (br_f (by decide) ⟨pk_in j 4 hj, br_t (by rw [nI_clamp (by omega)]; exact h0) hp⟩)))
theorem pv_unpackS {post : Int32 → St2 → Prop} {k : Nat} {R G B : Int32} (hk : k < 4) (hu : a5 k = 9) (hs : pv_Snd a4 k R G B)
    (hp : ∀ (cr : Int32) (a1 : Nat → Int32), pv_col a1 0 = pv_rgb R G B → post 1 (1, 1, aw, ah, fw, fh, cs, oc, li, lo, ra, co, he, wa, so, se, cr, a1, a2, a3, a4, a5, a6, a7, a8, a9, a10, a11, a12, a13, a14, a15)) : wpX_unpack post (w, h, aw, ah, fw, fh, cs, oc, li, lo, ra, co, he, wa, so, se, cr, a1, a2, a3, a4, a5, a6, a7, a8, a9, a10, a11, a12, a13, a14, a15) (nI k) := by
  unfold wpX_unpack
  refine pv_trS hk hu hs (fun c => br_t (by decide) ?_)
  refine pv_unpackFrom hk hs (fun d1 e0 e1 e2 => ?_)
  exact ek_v (P := fun r => post r _) (show (1 : Int32) * 1 = 1 by decide) (hp _ _ (pv_colR e0 e1 e2))
theorem pv_unpackN {post : Int32 → St2 → Prop} {x : Int32} (hb : x < 0 ∨ 4 ≤ x) (hp : post (-1) (w, h, aw, ah, fw, fh, cs, oc, li, lo, ra, co, he, wa, so, se, cr, a1, a2, a3, a4, a5, a6, a7, a8, a9, a10, a11, a12, a13, a14, a15)) : wpX_unpack post (w, h, aw, ah, fw, fh, cs, oc, li, lo, ra, co, he, wa, so, se, cr, a1, a2, a3, a4, a5, a6, a7, a8, a9, a10, a11, a12, a13, a14, a15) x := by
  unfold wpX_unpack wpX_troubleOf
  exact pv_slotN hb (br_t rfl (br_f (by decide) hp))
end PVUNPACK
end
section
/-! ===== blank, paint, pattern ===== -/
section PVPAINT
variable {w h aw ah fw fh cs oc li : Int32} {lo ra co : Int64} {he wa so se cr : Int32} {a1 a2 a3 a4 a5 a6 a7 a8 a9 a10 a11 a12 a13 a14 a15 : Nat → Int32}
theorem pv_12 {x : Int32} (h : ¬ x < 1) (h2 : ¬ 12 < x) : ∃ W, (1 ≤ W ∧ W ≤ 12) ∧ x = nI W := by
  rcases pk_ix x (n := 13) (by decide) with a | a | ⟨j, hj, e⟩
  · exact absurd (pv_ltt a) h
  · exact absurd (Classical.byContradiction (fun n => (pv_leI (a := 12) (b := 13) (by decide)).mp (Classical.byContradiction (fun m => h2 (pv_ltI.mpr m))) a)) (fun z : False => z)
  · rcases Nat.eq_zero_or_pos j with z | z
    · subst z
      exact absurd (show x < 1 by rw [e]; decide) h
    · exact ⟨j, ⟨z, by omega⟩, e⟩
theorem pv_blankL {post : Int32 → St2 → Prop} {x y : Int32} (hp : ∀ a1 : Nat → Int32, a1 0 = 0 → a1 144 = 0 → a1 288 = 0 → post (x * y) (w, h, aw, ah, fw, fh, cs, oc, li, lo, ra, co, he, wa, so, se, cr, a1, a2, a3, a4, a5, a6, a7, a8, a9, a10, a11, a12, a13, a14, a15)) : ∃ n, wX_blank_36 post x y w h aw ah fw fh cs oc li lo ra co he wa so se cr n 0 a1 a2 a3 a4 a5 a6 a7 a8 a9 a10 a11 a12 a13 a14 a15 := by
  refine pk_loop (fun n i s => wX_blank_36 post x y w h aw ah fw fh cs oc li lo ra co he wa so se cr n (nI i) s a2 a3 a4 a5 a6 a7 a8 a9 a10 a11 a12 a13 a14 a15) (fun i s => ∀ j, j < i → s j = 0) 432 0 a1 (by omega) (fun j hj => absurd hj (by omega)) ?_ ?_
  · intro n s h
    exact pk_le 432 432 (fun _ => hp s (h 0 (by omega)) (h 144 (by omega)) (h 288 (by omega))) (fun z => absurd z (by omega))
  · intro n i s hi h hw
    refine pk_le 432 i (fun z => absurd z (by omega)) (fun _ => ⟨pk_in i 432 hi, nm_e (nm_r (nI_1 i) (hw _ ?_))⟩)
    intro j hj
    rw [nI_clamp (by omega)]
    by_cases e : j = i
    · rw [e, pk_us]
    · rw [pk_un e]
      exact h j (by omega)
theorem pv_blankY {post : Int32 → St2 → Prop} {W H : Nat} (hW : 1 ≤ W ∧ W ≤ 12) (hH : 1 ≤ H ∧ H ≤ 12) (hp : ∀ a1 : Nat → Int32, a1 0 = 0 → a1 144 = 0 → a1 288 = 0 → post (nI W * nI H) (nI W, nI H, aw, ah, fw, fh, cs, oc, li, lo, ra, co, he, wa, so, se, cr, a1, a2, a3, a4, a5, a6, a7, a8, a9, a10, a11, a12, a13, a14, a15)) : wpX_blank post (w, h, aw, ah, fw, fh, cs, oc, li, lo, ra, co, he, wa, so, se, cr, a1, a2, a3, a4, a5, a6, a7, a8, a9, a10, a11, a12, a13, a14, a15) (nI W) (nI H) := by
  unfold wpX_blank
  exact br_f (nI_nlt (b := 1) hW.1 (by omega)) (br_f (nI_nlt (a := 12) hW.2 (by decide)) (br_f (nI_nlt (b := 1) hH.1 (by omega)) (br_t (nI_le (b := 12) hH.2 (by decide)) (pv_blankL hp))))
theorem pv_blankN {post : Int32 → St2 → Prop} {x y : Int32} (hb : ¬ (¬ x < 1 ∧ ¬ 12 < x ∧ ¬ y < 1 ∧ ¬ 12 < y)) (hp : post (-1) (w, h, aw, ah, fw, fh, cs, oc, li, lo, ra, co, he, wa, so, se, cr, a1, a2, a3, a4, a5, a6, a7, a8, a9, a10, a11, a12, a13, a14, a15)) : wpX_blank post (w, h, aw, ah, fw, fh, cs, oc, li, lo, ra, co, he, wa, so, se, cr, a1, a2, a3, a4, a5, a6, a7, a8, a9, a10, a11, a12, a13, a14, a15) x y := by
  unfold wpX_blank
  exact br_c (fun _ => hp) (fun a => br_c (fun _ => hp) (fun b => br_c (fun _ => hp) (fun c => br_c (fun d => absurd ⟨a, b, c, fun z => absurd d (pv_ltI.mp z)⟩ hb) (fun _ => hp))))
/-! paint -/
theorem pv_ixw {W H y x : Nat} (hW : W ≤ 12) (hH : H ≤ 12) (hy : y < H) (hx : x < W) : W * y + x < 144 := by
  have h1 : W * (y + 1) ≤ 12 * 12 := Nat.mul_le_mul hW (by omega)
  rw [Nat.mul_add] at h1
  omega
theorem pv_paint74 {post : Int32 → St2 → Prop} {J : Int32 → Int32 → Int32 → Int32 → Int32 → Int32 → Int32 → Int32 → Int32 → Int32 → Int32 → Int64 → Int64 → Int64 → Int32 → Int32 → Int32 → Int32 → Int32 → (Nat → Int32) → (Nat → Int32) → (Nat → Int32) → (Nat → Int32) → (Nat → Int32) → (Nat → Int32) → (Nat → Int32) → (Nat → Int32) → (Nat → Int32) → (Nat → Int32) → (Nat → Int32) → (Nat → Int32) → (Nat → Int32) → (Nat → Int32) → (Nat → Int32) → Prop}
    {W H L T Q y : Nat} {z : Int32} (hW : W ≤ 12) (hH : H ≤ 12) (hL : L < 16) (hQ : Q < 256) (hy : y < H) : ∀ (f x m : Nat) (a1 : Nat → Int32), L ≤ x → x + f = max L (min (L + Q / 16) W) →
    (∀ a1 : Nat → Int32, J (nI (m + f)) (nI (y + 1)) (nI W) (nI H) aw ah fw fh cs oc li lo ra co he wa so se cr a1 a2 a3 a4 a5 a6 a7 a8 a9 a10 a11 a12 a13 a14 a15) → wX_paint_74 post J (nI Q) z (nI L) (nI T) (nI y) (f + 1) (nI m) (nI x) (nI W) (nI H) aw ah fw fh cs oc li lo ra co he wa so se cr a1 a2 a3 a4 a5 a6 a7 a8 a9 a10 a11 a12 a13 a14 a15 := by
  have e : nI L + (nI Q >>> ((4 : Int32) &&& 31)) = nI (L + Q / 16) := by rw [pk_shrN (by omega) _ 4 (by decide), nI_add]
  intro f
  induction f with
  | zero =>
    intro x m a1 h1 h2 hJ
    refine pk_le (L + Q / 16) x (fun _ => nm_r (nI_1 y) (hJ _)) (fun z1 => ?_) e
    exact pk_le W x (fun _ => nm_r (nI_1 y) (hJ _)) (fun z2 => absurd h2 (by omega))
  | succ f ih =>
    intro x m a1 h1 h2 hJ
    refine pk_le (L + Q / 16) x (fun z1 => absurd h2 (by omega)) (fun z1 => ?_) e
    refine pk_le W x (fun z2 => absurd h2 (by omega)) (fun z2 => ?_)
    have ei : nI W * nI y + nI x = nI (W * y + x) := by rw [pk_mul, nI_add]
    rw [ei]
    refine pv_setColour (pv_ixw hW hH hy z2) (nm_r (nI_1 m) (nm_r (nI_1 x) ?_))
    exact ih (x + 1) (m + 1) _ (by omega) (by omega) (fun a1 => by rw [show m + 1 + f = m + (f + 1) by omega]; exact hJ a1)
theorem pv_paint49 {post : Int32 → St2 → Prop} {W H L T Q : Nat} {z : Int32} (hW : W ≤ 12) (hH : H ≤ 12) (hL : L < 16) (hT : T < 16) (hQ : Q < 256) : ∀ (f y m : Nat) (a1 : Nat → Int32), T ≤ y → y + f = max T (min (T + Q % 16) H) →
    (∀ a1 : Nat → Int32, post (nI (m + f * (min (L + Q / 16) W - L))) (nI W, nI H, aw, ah, fw, fh, cs, oc, li, lo, ra, co, he, wa, so, se, cr, a1, a2, a3, a4, a5, a6, a7, a8, a9, a10, a11, a12, a13, a14, a15)) → wX_paint_49 post (nI Q) z (nI L) (nI T) (f + 1) (nI m) (nI y) (nI W) (nI H) aw ah fw fh cs oc li lo ra co he wa so se cr a1 a2 a3 a4 a5 a6 a7 a8 a9 a10 a11 a12 a13 a14 a15 := by
  have e : nI T + (nI Q &&& 15) = nI (T + Q % 16) := by rw [pk_andN (by omega) 4 (by decide), nI_add]
  intro f
  induction f with
  | zero =>
    intro y m a1 h1 h2 hp
    have hp' : post (nI m) (nI W, nI H, aw, ah, fw, fh, cs, oc, li, lo, ra, co, he, wa, so, se, cr, a1, a2, a3, a4, a5, a6, a7, a8, a9, a10, a11, a12, a13, a14, a15) := by
      have := hp a1
      rw [Nat.zero_mul, Nat.add_zero] at this
      exact this
    refine pk_le (T + Q % 16) y (fun _ => hp') (fun z1 => ?_) e
    exact pk_le H y (fun _ => hp') (fun z2 => absurd h2 (by omega))
  | succ f ih =>
    intro y m a1 h1 h2 hp
    refine pk_le (T + Q % 16) y (fun z1 => absurd h2 (by omega)) (fun z1 => ?_) e
    refine pk_le H y (fun z2 => absurd h2 (by omega)) (fun z2 => ⟨_, pv_paint74 hW hH hL hQ z2 (min (L + Q / 16) W - L) L m a1 (by omega) (by omega) (fun a1 => ?_)⟩)
    exact ih (y + 1) (m + (min (L + Q / 16) W - L)) a1 (by omega) (by omega) (fun a1 => by rw [show m + (min (L + Q / 16) W - L) + f * (min (L + Q / 16) W - L) = m + (f + 1) * (min (L + Q / 16) W - L) by rw [Nat.add_mul]; omega]; exact hp a1)
theorem pv_paintY {post : Int32 → St2 → Prop} {W H P Q N : Nat} (hW : W ≤ 12) (hH : H ≤ 12) (hP : P < 256) (hQ : Q < 256) (hN : N < 16777216)
    (hp : ∀ a1 : Nat → Int32, post (nI ((min (P / 16 + Q / 16) W - P / 16) * (min (P % 16 + Q % 16) H - P % 16))) (nI W, nI H, aw, ah, fw, fh, cs, oc, li, lo, ra, co, he, wa, so, se, cr, a1, a2, a3, a4, a5, a6, a7, a8, a9, a10, a11, a12, a13, a14, a15)) : wpX_paint post (nI W, nI H, aw, ah, fw, fh, cs, oc, li, lo, ra, co, he, wa, so, se, cr, a1, a2, a3, a4, a5, a6, a7, a8, a9, a10, a11, a12, a13, a14, a15) (nI P) (nI Q) (nI N) := by
  unfold wpX_paint
  refine br_f (nI_pos (by omega)) (br_f (nI_nlt (a := 255) (by omega) (by decide)) (br_f (nI_pos (by omega)) (br_f (nI_nlt (a := 255) (by omega) (by decide)) ?_)))
  refine pv_isColour (fun _ => br_f (by decide) ?_) (fun z => absurd ⟨N, hN, rfl⟩ z)
  refine nm_r (e' := nI (P / 16)) (pk_shrN (by omega) _ 4 (by decide)) (nm_r (e' := nI (P % 16)) (pk_andN (by omega) 4 (by decide)) ⟨min (P % 16 + Q % 16) H - P % 16 + 1, ?_⟩)
  refine pv_paint49 hW hH (by omega) (by omega) hQ (min (P % 16 + Q % 16) H - P % 16) (P % 16) 0 a1 (by omega) (by omega) (fun a1 => ?_)
  rw [Nat.zero_add, Nat.mul_comm]
  exact hp a1
/-- paint takes these -/
def pv_P (x y z : Int32) : Prop := ¬ x < 0 ∧ ¬ 256 ≤ x ∧ ¬ y < 0 ∧ ¬ 256 ≤ y ∧ ¬ z < 0 ∧ ¬ 16777216 ≤ z
theorem pv_paintN {post : Int32 → St2 → Prop} {x y z : Int32} (hb : ¬ pv_P x y z) (hp : post (-1) (w, h, aw, ah, fw, fh, cs, oc, li, lo, ra, co, he, wa, so, se, cr, a1, a2, a3, a4, a5, a6, a7, a8, a9, a10, a11, a12, a13, a14, a15)) : wpX_paint post (w, h, aw, ah, fw, fh, cs, oc, li, lo, ra, co, he, wa, so, se, cr, a1, a2, a3, a4, a5, a6, a7, a8, a9, a10, a11, a12, a13, a14, a15) x y z := by
  unfold wpX_paint
  refine br_c (fun _ => hp) (fun a => br_c (fun _ => hp) (fun b => br_c (fun _ => hp) (fun c => br_c (fun _ => hp) (fun d => pv_isColour (fun e => ?_) (fun _ => br_t rfl hp)))))
  obtain ⟨n, hn, rfl⟩ := e
  refine absurd ⟨a, fun g => ?_, c, fun g => ?_, nI_pos (by omega), nI_ge hn (by decide)⟩ hb
  · exact (pv_leI (a := 255) (b := 256) (by decide)).mp (Classical.byContradiction (fun m => b (pv_ltI.mpr m))) g
  · exact (pv_leI (a := 255) (b := 256) (by decide)).mp (Classical.byContradiction (fun m => d (pv_ltI.mpr m))) g
/-! pattern -/
theorem pv_pat145 {post : Int32 → St2 → Prop} {W H i n : Nat} {x1 x2 x3 x4 z0 z1 : Int32} (hi : i < 144) (hw : ∀ (x4 : Int32) (a1 : Nat → Int32), wX_pattern_17 post x1 x2 x3 n x4 (nI (i + 1)) (nI W) (nI H) aw ah fw fh cs oc li lo ra co he wa so se cr a1 a2 a3 a4 a5 a6 a7 a8 a9 a10 a11 a12 a13 a14 a15) :
    wX_pattern_145 post (wX_pattern_17 post x1 x2 x3 n) x1 x2 x3 x4 (nI i) z0 z1 (nI W) (nI H) aw ah fw fh cs oc li lo ra co he wa so se cr a1 a2 a3 a4 a5 a6 a7 a8 a9 a10 a11 a12 a13 a14 a15 := by
  unfold wX_pattern_145
  exact nm_e (pv_setColour hi (nm_r (nI_1 i) (hw _ _)))
theorem pv_pat126 {post : Int32 → St2 → Prop} {W H i n : Nat} {x1 x2 x3 x4 z0 : Int32} (hi : i < 144) (hw : ∀ (x4 : Int32) (a1 : Nat → Int32), wX_pattern_17 post x1 x2 x3 n x4 (nI (i + 1)) (nI W) (nI H) aw ah fw fh cs oc li lo ra co he wa so se cr a1 a2 a3 a4 a5 a6 a7 a8 a9 a10 a11 a12 a13 a14 a15) :
    wX_pattern_126 post (wX_pattern_17 post x1 x2 x3 n) x1 x2 x3 x4 (nI i) z0 (nI W) (nI H) aw ah fw fh cs oc li lo ra co he wa so se cr a1 a2 a3 a4 a5 a6 a7 a8 a9 a10 a11 a12 a13 a14 a15 := by
  unfold wX_pattern_126
  exact br_c (fun _ => pv_colourAt hi (pv_pat145 hi hw)) (fun _ => pv_pat145 hi hw)
theorem pv_pat17 {post : Int32 → St2 → Prop} {W H : Nat} {x1 x2 x3 : Int32} (hW : 1 ≤ W ∧ W ≤ 12) (hH : 1 ≤ H ∧ H ≤ 12) (hp : ∀ a1 : Nat → Int32, post (nI W * nI H) (nI W, nI H, aw, ah, fw, fh, cs, oc, li, lo, ra, co, he, wa, so, se, cr, a1, a2, a3, a4, a5, a6, a7, a8, a9, a10, a11, a12, a13, a14, a15)) :
    ∀ (f i : Nat) (x4 : Int32) (a1 : Nat → Int32), i + f = W * H → wX_pattern_17 post x1 x2 x3 (f + 1) x4 (nI i) (nI W) (nI H) aw ah fw fh cs oc li lo ra co he wa so se cr a1 a2 a3 a4 a5 a6 a7 a8 a9 a10 a11 a12 a13 a14 a15 := by
  have hB : W * H ≤ 12 * 12 := Nat.mul_le_mul hW.2 hH.2
  have h0 : ¬ nI W = 0 := nI_ne0 (by omega) (by omega)
  intro f
  induction f with
  | zero =>
    intro i x4 a1 hi
    exact pk_le (W * H) i (fun _ => hp a1) (fun z => absurd hi (by omega)) (pk_mul W H)
  | succ f ih =>
    intro i x4 a1 hi
    have hw := fun (x4 : Int32) (a1 : Nat → Int32) => ih (i + 1) x4 a1 (by omega)
    have hi' : i < 144 := by omega
    exact pk_le (W * H) i (fun z => absurd hi (by omega)) (fun _ => ⟨h0, nm_e ⟨h0, nm_e (nm_e (br_c (fun _ => pv_pat126 hi' hw) (fun _ => br_c (fun _ => pv_pat126 hi' hw) (fun _ => pv_pat126 hi' hw))))⟩⟩) (pk_mul W H)
theorem pv_pattern {post : Int32 → St2 → Prop} {W H : Nat} {t y z : Int32} (hW : 1 ≤ W ∧ W ≤ 12) (hH : 1 ≤ H ∧ H ≤ 12) (h0 : (t < 0 ∨ 4 ≤ t) → post (-1) (nI W, nI H, aw, ah, fw, fh, cs, oc, li, lo, ra, co, he, wa, so, se, cr, a1, a2, a3, a4, a5, a6, a7, a8, a9, a10, a11, a12, a13, a14, a15)) (h1 : ¬ t < 0 → ¬ 4 ≤ t → ∀ a1 : Nat → Int32, post (nI W * nI H) (nI W, nI H, aw, ah, fw, fh, cs, oc, li, lo, ra, co, he, wa, so, se, cr, a1, a2, a3, a4, a5, a6, a7, a8, a9, a10, a11, a12, a13, a14, a15)) : wpX_pattern post (nI W, nI H, aw, ah, fw, fh, cs, oc, li, lo, ra, co, he, wa, so, se, cr, a1, a2, a3, a4, a5, a6, a7, a8, a9, a10, a11, a12, a13, a14, a15) t y z := by
  unfold wpX_pattern
  exact br_c (fun c => h0 (Or.inl c)) (fun c => br_c (fun d => ⟨W * H + 1, pv_pat17 hW hH (h1 c ((pv_leI (by decide)).mp d)) (W * H) 0 y a1 (by omega)⟩) (fun d => h0 (Or.inr (Classical.byContradiction (fun n => d ((pv_leI (by decide)).mpr n))))))
end PVPAINT
end
section
/-! ===== the law's pieces behind the packing ===== -/
section PVLAWB
variable {w h aw ah fw fh cs oc li : Int32} {lo ra co : Int64} {he wa so se cr : Int32} {a1 a2 a3 a4 a5 a6 a7 a8 a9 a10 a11 a12 a13 a14 a15 : Nat → Int32} {post : Int32 → St0 → Prop} {mc ms kc ks : Nat} {x0 x1 x2 x3 x5 x6 x7 x8 x9 x10 x11 x12 x13 x14 x15 x16 x17 x18 x19 z0 z1 : Int32}
theorem pv_width {q : Int32 → Prop} (hp : q w) : wpX_width q (w, h, aw, ah, fw, fh, cs, oc, li, lo, ra, co, he, wa, so, se, cr, a1, a2, a3, a4, a5, a6, a7, a8, a9, a10, a11, a12, a13, a14, a15) := hp
theorem pv_height {q : Int32 → Prop} (hp : q h) : wpX_height q (w, h, aw, ah, fw, fh, cs, oc, li, lo, ra, co, he, wa, so, se, cr, a1, a2, a3, a4, a5, a6, a7, a8, a9, a10, a11, a12, a13, a14, a15) := hp
/-- the slot is no slot, or it holds the colour x12 and the other slots nothing -/
def pv_B (x5 x8 x12 : Int32) (a4 a5 : Nat → Int32) : Prop := (x8 = 0 ∧ (x5 < 0 ∨ 4 ≤ x5)) ∨ (x8 = 1 ∧ ∃ (k : Nat) (R G B : Int32), k < 4 ∧ x5 = nI k ∧ a5 k = 9 ∧ pv_Snd a4 k R G B ∧ x12 = pv_rgb R G B ∧ ∀ j, j < 4 → j ≠ k → a5 j = 0)
def pv_G (x5 x8 : Int32) : Prop := (x8 = 0 ∧ (x5 < 0 ∨ 4 ≤ x5)) ∨ (x8 = 1 ∧ ∃ k, k < 4 ∧ x5 = nI k)
def pv_Pl (x0 x1 x11 : Int32) : Prop := (x11 = 0 ∧ ¬ (x0 = 0 ∧ x1 = 0)) ∨ (x11 = 1 ∧ (x0 = 0 ∧ x1 = 0))
theorem pv_n1 {x : Int32} (h : x = 1) : ¬ x = 0 := by rw [h]; decide
theorem pv_L1096n (hp : post 1 ()) (hz : z1 = z0) (h8 : x8 = 0) : wL_lawOf_1096 post mc ms x8 x12 z0 z1 kc ks w h aw ah fw fh cs oc li lo ra co he wa so se cr a1 a2 a3 a4 a5 a6 a7 a8 a9 a10 a11 a12 a13 a14 a15 := br_t hz (br_t h8 hp)
theorem pv_L1096y (hp : post 1 ()) (hz : z1 = z0) (h8 : x8 = 1) (hc : pv_col a1 0 = x12) : wL_lawOf_1096 post mc ms x8 x12 z0 z1 kc ks 1 1 aw ah fw fh cs oc li lo ra co he wa so se cr a1 a2 a3 a4 a5 a6 a7 a8 a9 a10 a11 a12 a13 a14 a15 :=
  br_t hz (br_f (pv_n1 h8) (pv_get1 (fun _ => br_t hc (pv_width (br_t rfl hp))) (fun z => absurd ⟨rfl, rfl⟩ z)))
theorem pv_L1076 (hp : post 1 ()) (hz : z1 = z0) (hB : pv_B x5 x8 x12 a4 a5) : wL_lawOf_1076 post mc ms x5 x8 x12 z0 z1 kc ks w h aw ah fw fh cs oc li lo ra co he wa so se cr a1 a2 a3 a4 a5 a6 a7 a8 a9 a10 a11 a12 a13 a14 a15 := by
  refine br_t hz ?_
  rcases hB with ⟨h8, hb⟩ | ⟨h8, k, R, G, B, hk, rfl, hu, hs, hc, _⟩
  · exact pv_unpackN hb (br_t h8 (pv_L1096n hp rfl h8))
  · exact pv_unpackS hk hu hs (fun cr a1 e => br_f (pv_n1 h8) (pv_L1096y hp rfl h8 (by rw [e, hc])))
theorem pv_L1075 (hp : post 1 ()) (hz : z0 = -1) (hB : pv_B x5 x8 x12 a4 a5) : wL_lawOf_1075 post mc ms x5 x8 x12 z0 kc ks w h aw ah fw fh cs oc li lo ra co he wa so se cr a1 a2 a3 a4 a5 a6 a7 a8 a9 a10 a11 a12 a13 a14 a15 := by
  unfold wL_lawOf_1075
  exact pv_L1076 hp hz hB
section PVSIZED
variable {W H P Q N : Nat}
theorem pv_L1036 (hp : post 1 ()) (hz : z1 = z0) (hW : 1 ≤ W ∧ W ≤ 12) (hH : 1 ≤ H ∧ H ≤ 12) (hB : pv_B x5 x8 x12 a4 a5) : wL_lawOf_1036 post mc ms x1 x2 x5 x7 x8 x12 z0 z1 kc ks (nI W) (nI H) aw ah fw fh cs oc li lo ra co he wa so se cr a1 a2 a3 a4 a5 a6 a7 a8 a9 a10 a11 a12 a13 a14 a15 := by
  refine br_t hz (pv_pattern hW hH (fun c => ?_) (fun c d b => ?_))
  · exact br_c (fun _ => pv_L1075 hp rfl hB) (fun n => br_c (fun _ => pv_L1075 hp rfl hB) (fun m => absurd c (fun t => t.elim n m)))
  · exact br_f c (br_f d (pv_width (pv_height (pv_L1076 hp rfl hB))))
theorem pv_L1013n (hp : post 1 ()) (h18 : x18 = 0) (hn : ¬ pv_P x16 x17 x2) (hW : 1 ≤ W ∧ W ≤ 12) (hH : 1 ≤ H ∧ H ≤ 12) (hB : pv_B x5 x8 x12 a4 a5) : wL_lawOf_1013 post mc ms x1 x2 x5 x7 x8 x12 x16 x17 x18 z0 kc ks (nI W) (nI H) aw ah fw fh cs oc li lo ra co he wa so se cr a1 a2 a3 a4 a5 a6 a7 a8 a9 a10 a11 a12 a13 a14 a15 := by
  unfold wL_lawOf_1013
  exact pv_paintN hn (br_t h18 (pv_L1036 hp rfl hW hH hB))
theorem pv_L1004n (hp : post 1 ()) (h18 : x18 = 0) (hn : ¬ pv_P x16 x17 x2) (hW : 1 ≤ W ∧ W ≤ 12) (hH : 1 ≤ H ∧ H ≤ 12) (hB : pv_B x5 x8 x12 a4 a5) : wL_lawOf_1004 post mc ms x1 x2 x5 x7 x8 x12 x16 x17 x18 kc ks (nI W) (nI H) aw ah fw fh cs oc li lo ra co he wa so se cr a1 a2 a3 a4 a5 a6 a7 a8 a9 a10 a11 a12 a13 a14 a15 := by
  unfold wL_lawOf_1004
  exact pv_L1013n hp h18 hn hW hH hB
theorem pv_L986n (hp : post 1 ()) (h18 : x18 = 0) (hn : ¬ pv_P x16 x17 x2) (hW : 1 ≤ W ∧ W ≤ 12) (hH : 1 ≤ H ∧ H ≤ 12) (hB : pv_B x5 x8 x12 a4 a5) : wL_lawOf_986 post mc ms x1 x2 x5 x7 x8 x12 x16 x17 x18 x19 z0 kc ks (nI W) (nI H) aw ah fw fh cs oc li lo ra co he wa so se cr a1 a2 a3 a4 a5 a6 a7 a8 a9 a10 a11 a12 a13 a14 a15 :=
  ⟨by decide, nm_e (br_c (fun _ => pv_L1004n hp h18 hn hW hH hB) (fun _ => br_c (fun _ => pv_L1013n hp h18 hn hW hH hB) (fun _ => pv_L1004n hp h18 hn hW hH hB)))⟩
theorem pv_L940n (hp : post 1 ()) (h18 : x18 = 0) (hn : ¬ pv_P x16 x17 x2) (hW : 1 ≤ W ∧ W ≤ 12) (hH : 1 ≤ H ∧ H ≤ 12) (hB : pv_B x5 x8 x12 a4 a5) : wL_lawOf_940 post mc ms x1 x2 x5 x7 x8 x12 x16 x17 x18 z0 kc ks (nI W) (nI H) aw ah fw fh cs oc li lo ra co he wa so se cr a1 a2 a3 a4 a5 a6 a7 a8 a9 a10 a11 a12 a13 a14 a15 :=
  ⟨by decide, nm_e ⟨by decide, by decide, pv_height (br_c (fun _ => pv_height (pv_L986n hp h18 hn hW hH hB)) (fun _ => ⟨by decide, by decide, pv_L986n hp h18 hn hW hH hB⟩))⟩⟩
theorem pv_L900n (hp : post 1 ()) (h18 : z0 = 0) (hn : ¬ pv_P x16 x17 x2) (hW : 1 ≤ W ∧ W ≤ 12) (hH : 1 ≤ H ∧ H ≤ 12) (hB : pv_B x5 x8 x12 a4 a5) : wL_lawOf_900 post mc ms x1 x2 x5 x7 x8 x12 x16 x17 z0 kc ks (nI W) (nI H) aw ah fw fh cs oc li lo ra co he wa so se cr a1 a2 a3 a4 a5 a6 a7 a8 a9 a10 a11 a12 a13 a14 a15 :=
  ⟨by decide, by decide, pv_width (br_c (fun _ => pv_width (pv_L940n hp h18 hn hW hH hB)) (fun _ => ⟨by decide, by decide, pv_L940n hp h18 hn hW hH hB⟩))⟩
theorem pv_L899 (hp : post 1 ()) (hn : ¬ pv_P x16 x17 x2) (hW : 1 ≤ W ∧ W ≤ 12) (hH : 1 ≤ H ∧ H ≤ 12) (hB : pv_B x5 x8 x12 a4 a5) : wL_lawOf_899 post mc ms x1 x2 x5 x7 x8 x12 x16 x17 kc ks (nI W) (nI H) aw ah fw fh cs oc li lo ra co he wa so se cr a1 a2 a3 a4 a5 a6 a7 a8 a9 a10 a11 a12 a13 a14 a15 := by
  unfold wL_lawOf_899
  exact pv_L900n hp rfl hn hW hH hB
/-! paint takes the place, the box and the colour -/
theorem pv_L1013y (hp : post 1 ()) (h18 : x18 = 1) (hP : P < 256) (hQ : Q < 256) (hN : N < 16777216) (hz : z0 = nI ((min (P / 16 + Q / 16) W - P / 16) * (min (P % 16 + Q % 16) H - P % 16))) (hW : 1 ≤ W ∧ W ≤ 12) (hH : 1 ≤ H ∧ H ≤ 12) (hB : pv_B x5 x8 x12 a4 a5) : wL_lawOf_1013 post mc ms x1 (nI N) x5 x7 x8 x12 (nI P) (nI Q) x18 z0 kc ks (nI W) (nI H) aw ah fw fh cs oc li lo ra co he wa so se cr a1 a2 a3 a4 a5 a6 a7 a8 a9 a10 a11 a12 a13 a14 a15 := by
  unfold wL_lawOf_1013
  exact pv_paintY hW.2 hH.2 hP hQ hN (fun a1 => br_f (pv_n1 h18) (pv_L1036 hp hz.symm hW hH hB))
theorem pv_L986y (hp : post 1 ()) (h18 : x18 = 1) (hP : P < 256) (hQ : Q < 256) (hN : N < 16777216) (h19 : x19 = nI (min (P / 16 + Q / 16) W) - nI (P / 16)) (hz : z0 = nI (min (P % 16 + Q % 16) H)) (hW : 1 ≤ W ∧ W ≤ 12) (hH : 1 ≤ H ∧ H ≤ 12) (hB : pv_B x5 x8 x12 a4 a5) : wL_lawOf_986 post mc ms x1 (nI N) x5 x7 x8 x12 (nI P) (nI Q) x18 x19 z0 kc ks (nI W) (nI H) aw ah fw fh cs oc li lo ra co he wa so se cr a1 a2 a3 a4 a5 a6 a7 a8 a9 a10 a11 a12 a13 a14 a15 := by
  have er : nI P - nI P / 16 * 16 = nI (P % 16) := pk_rem (d := 16) (by omega) (by decide) (by decide)
  refine ⟨by decide, nm_r (e' := nI (min (P % 16 + Q % 16) H) - nI (P % 16)) (by rw [hz, er]) ?_⟩
  rcases Nat.lt_or_ge (min (P / 16 + Q / 16) W) (P / 16) with c | c
  · refine br_t (by rw [h19]; exact pk_sneg (by omega) c) ?_
    unfold wL_lawOf_1004
    exact pv_L1013y hp h18 hP hQ hN (by rw [show min (P / 16 + Q / 16) W - P / 16 = 0 by omega, Nat.zero_mul]; rfl) hW hH hB
  · have e19 : x19 = nI (min (P / 16 + Q / 16) W - P / 16) := by rw [h19, pk_sub c]
    refine br_f (by rw [e19]; exact nI_pos (by omega)) ?_
    rcases Nat.lt_or_ge (min (P % 16 + Q % 16) H) (P % 16) with d | d
    · refine br_f (fun z => absurd (pk_sneg (by omega) d) (fun y => absurd z (pv_ltI.mp y))) ?_
      unfold wL_lawOf_1004
      exact pv_L1013y hp h18 hP hQ hN (by rw [show min (P % 16 + Q % 16) H - P % 16 = 0 by omega, Nat.mul_zero]; rfl) hW hH hB
    · refine br_t (by rw [pk_sub d]; exact nI_pos' (by omega)) ?_
      exact pv_L1013y hp h18 hP hQ hN (by rw [pk_sub d, e19, pk_mul]) hW hH hB
theorem pv_L940y (hp : post 1 ()) (h18 : x18 = 1) (hP : P < 256) (hQ : Q < 256) (hN : N < 16777216) (hz : z0 = nI (min (P / 16 + Q / 16) W)) (hW : 1 ≤ W ∧ W ≤ 12) (hH : 1 ≤ H ∧ H ≤ 12) (hB : pv_B x5 x8 x12 a4 a5) : wL_lawOf_940 post mc ms x1 (nI N) x5 x7 x8 x12 (nI P) (nI Q) x18 z0 kc ks (nI W) (nI H) aw ah fw fh cs oc li lo ra co he wa so se cr a1 a2 a3 a4 a5 a6 a7 a8 a9 a10 a11 a12 a13 a14 a15 := by
  have er : nI P - nI P / 16 * 16 = nI (P % 16) := pk_rem (d := 16) (by omega) (by decide) (by decide)
  have es : nI Q - nI Q / 16 * 16 = nI (Q % 16) := pk_rem (d := 16) (by omega) (by decide) (by decide)
  have ed : nI P / 16 = nI (P / 16) := pk_div (d := 16) (by omega) (by decide) (by decide)
  have et : (nI P - nI P / 16 * 16) + (nI Q - nI Q / 16 * 16) = nI (P % 16 + Q % 16) := by rw [er, es, nI_add]
  refine ⟨by decide, nm_r (e' := nI (min (P / 16 + Q / 16) W) - nI (P / 16)) (by rw [hz, ed]) ⟨by decide, by decide, pv_height (pk_le H (P % 16 + Q % 16) (fun c => pv_height ?_) (fun c => ⟨by decide, by decide, ?_⟩) rfl et)⟩⟩
  · exact pv_L986y hp h18 hP hQ hN rfl (by rw [show min (P % 16 + Q % 16) H = H by omega]) hW hH hB
  · exact pv_L986y hp h18 hP hQ hN rfl (by rw [et, show min (P % 16 + Q % 16) H = P % 16 + Q % 16 by omega]) hW hH hB
theorem pv_L900y (hp : post 1 ()) (h18 : z0 = 1) (hP : P < 256) (hQ : Q < 256) (hN : N < 16777216) (hW : 1 ≤ W ∧ W ≤ 12) (hH : 1 ≤ H ∧ H ≤ 12) (hB : pv_B x5 x8 x12 a4 a5) : wL_lawOf_900 post mc ms x1 (nI N) x5 x7 x8 x12 (nI P) (nI Q) z0 kc ks (nI W) (nI H) aw ah fw fh cs oc li lo ra co he wa so se cr a1 a2 a3 a4 a5 a6 a7 a8 a9 a10 a11 a12 a13 a14 a15 := by
  have ed : nI P / 16 = nI (P / 16) := pk_div (d := 16) (by omega) (by decide) (by decide)
  have ee : nI Q / 16 = nI (Q / 16) := pk_div (d := 16) (by omega) (by decide) (by decide)
  have et : nI P / 16 + nI Q / 16 = nI (P / 16 + Q / 16) := by rw [ed, ee, nI_add]
  refine ⟨by decide, by decide, pv_width (pk_le W (P / 16 + Q / 16) (fun c => pv_width ?_) (fun c => ⟨by decide, by decide, ?_⟩) rfl et)⟩
  · exact pv_L940y hp h18 hP hQ hN (by rw [show min (P / 16 + Q / 16) W = W by omega]) hW hH hB
  · exact pv_L940y hp h18 hP hQ hN (by rw [et, show min (P / 16 + Q / 16) W = P / 16 + Q / 16 by omega]) hW hH hB
theorem pv_nn {x : Int32} {n : Nat} (hn : n < 2 ^ 31) (h : ¬ x < 0) (h2 : ¬ nI n ≤ x) : ∃ j, j < n ∧ x = nI j := by
  rcases pk_ix x hn with a | a | b
  · exact absurd a h
  · exact absurd a h2
  · exact b
theorem pv_L857 (hp : post 1 ()) (hW : 1 ≤ W ∧ W ≤ 12) (hH : 1 ≤ H ∧ H ≤ 12) (hB : pv_B x5 x8 x12 a4 a5) : wL_lawOf_857 post mc ms x1 x2 x5 x7 x8 x12 x16 z0 kc ks (nI W) (nI H) aw ah fw fh cs oc li lo ra co he wa so se cr a1 a2 a3 a4 a5 a6 a7 a8 a9 a10 a11 a12 a13 a14 a15 := by
  have n : ¬ pv_P x16 z0 x2 → wL_lawOf_899 post mc ms x1 x2 x5 x7 x8 x12 x16 z0 kc ks (nI W) (nI H) aw ah fw fh cs oc li lo ra co he wa so se cr a1 a2 a3 a4 a5 a6 a7 a8 a9 a10 a11 a12 a13 a14 a15 := fun hn => pv_L899 hp hn hW hH hB
  refine br_c (fun a => n (fun t => t.1 a)) (fun a => br_c (fun b => n (fun t => t.2.1 b)) (fun b => br_c (fun c => n (fun t => t.2.2.1 c)) (fun c => br_c (fun d => n (fun t => t.2.2.2.1 d)) (fun d => br_c (fun e => n (fun t => t.2.2.2.2.1 e)) (fun e => br_c (fun f => n (fun t => t.2.2.2.2.2 f)) (fun f => ?_))))))
  obtain ⟨P, hP, rfl⟩ := pv_nn (n := 256) (by decide) a b
  obtain ⟨Q, hQ, rfl⟩ := pv_nn (n := 256) (by decide) c d
  obtain ⟨N, hN, rfl⟩ := pv_nn (n := 16777216) (by decide) e f
  exact pv_L900y hp rfl hP hQ hN hW hH hB
theorem pv_L840 (hp : post 1 ()) (hW : 1 ≤ W ∧ W ≤ 12) (hH : 1 ≤ H ∧ H ≤ 12) (hB : pv_B x5 x8 x12 a4 a5) : wL_lawOf_840 post mc ms x1 x2 x5 x7 x8 x12 z0 kc ks (nI W) (nI H) aw ah fw fh cs oc li lo ra co he wa so se cr a1 a2 a3 a4 a5 a6 a7 a8 a9 a10 a11 a12 a13 a14 a15 :=
  br_c (fun _ => pv_L857 hp hW hH hB) (fun _ => pv_L857 hp hW hH hB)
theorem pv_L825 (hp : post 1 ()) (hW : 1 ≤ W ∧ W ≤ 12) (hH : 1 ≤ H ∧ H ≤ 12) (hB : pv_B x5 x8 x12 a4 a5) : wL_lawOf_825 post mc ms x0 x1 x2 x5 x7 x8 x12 kc ks (nI W) (nI H) aw ah fw fh cs oc li lo ra co he wa so se cr a1 a2 a3 a4 a5 a6 a7 a8 a9 a10 a11 a12 a13 a14 a15 :=
  br_c (fun _ => pv_L840 hp hW hH hB) (fun _ => pv_L840 hp hW hH hB)
theorem pv_L781 {k : Nat} {R G B : Int32} (hp : post 1 ()) (hz : z1 = z0) (h8 : x8 = 1) (h9 : pv_G x6 x9) (hk : k < 4) (hu : a5 k = 9) (hs : pv_Snd a4 k R G B) (hc : x12 = pv_rgb R G B) (ho : ∀ j, j < 4 → j ≠ k → a5 j = 0) (hW : 1 ≤ W ∧ W ≤ 12) (hH : 1 ≤ H ∧ H ≤ 12) : wL_lawOf_781 post mc ms x0 x1 x2 (nI k) x6 x7 x8 x9 x12 z0 z1 kc ks (nI W) (nI H) aw ah fw fh cs oc li lo ra co he wa so se cr a1 a2 a3 a4 a5 a6 a7 a8 a9 a10 a11 a12 a13 a14 a15 := by
  have hB : pv_B (nI k) x8 x12 a4 a5 := Or.inr ⟨h8, k, R, G, B, hk, rfl, hu, hs, hc, ho⟩
  refine br_t hz (pv_sameS hk hu hs (fun aw ah fw fh cr a1 a2 a3 => br_t rfl (br_c (fun _ => pv_L825 hp hW hH hB) (fun n9 => br_c (fun _ => pv_L825 hp hW hH hB) (fun ne => ?_)))))
  rcases h9 with ⟨h, _⟩ | ⟨_, j, hj, rfl⟩
  · exact absurd h n9
  · exact pv_sameO hj hk (ho j hj (fun e => ne (by rw [e]))) (br_t rfl (pv_L825 hp hW hH hB))
theorem pv_L737 (hp : post 1 ()) (hz : z1 = z0) (h9 : pv_G x6 x9) (h11 : pv_Pl x0 x1 x11) (hB : pv_B x5 x8 x12 a4 a5) (hW : 1 ≤ W ∧ W ≤ 12) (hH : 1 ≤ H ∧ H ≤ 12) : wL_lawOf_737 post mc ms x0 x1 x2 x5 x6 x7 x8 x9 x11 x12 z0 z1 kc ks (nI W) (nI H) aw ah fw fh cs oc li lo ra co he wa so se cr a1 a2 a3 a4 a5 a6 a7 a8 a9 a10 a11 a12 a13 a14 a15 := by
  refine br_t hz ?_
  have hB' := hB
  rcases hB with ⟨h8, hb⟩ | ⟨h8, k, R, G, B, hk, rfl, hu, hs, hc, ho⟩
  · exact br_t h8 (pv_L825 hp hW hH hB')
  · refine br_f (pv_n1 h8) (pv_peekS hk hu hs (fun _ aw ah cr a1 a2 => br_t hc.symm ?_) (fun z => absurd ⟨rfl, rfl⟩ z))
    refine pv_peekS hk hu hs (fun z aw ah cr a1 a2 => ?_) (fun z aw ah cr a1 a2 => ?_)
    · rcases h11 with ⟨_, g⟩ | ⟨e, _⟩
      · exact absurd z g
      · exact br_f (pv_n1 e) (pv_L781 hp hc.symm h8 h9 hk hu hs hc ho hW hH)
    · rcases h11 with ⟨e, _⟩ | ⟨_, g⟩
      · exact br_t e (pv_L781 hp rfl h8 h9 hk hu hs hc ho hW hH)
      · exact absurd g z
/-- the picture behind 'blank' -/
def pv_Z (x12 x13 x14 x15 : Int32) (W H : Nat) (a1 : Nat → Int32) : Prop := (x15 = 0 ∧ nI W = 1 ∧ nI H = 1 ∧ pv_col a1 0 = x12) ∨ (x15 = 1 ∧ nI W = x13 ∧ nI H = x14 ∧ pv_col a1 0 = 0)
theorem pv_L716 (hp : post 1 ()) (hz : z1 = z0) (hZ : pv_Z x12 x13 x14 x15 W H a1) (h9 : pv_G x6 x9) (h11 : pv_Pl x0 x1 x11) (hB : pv_B x5 x8 x12 a4 a5) (hW : 1 ≤ W ∧ W ≤ 12) (hH : 1 ≤ H ∧ H ≤ 12) : wL_lawOf_716 post mc ms x0 x1 x2 x5 x6 x7 x8 x9 x11 x12 x15 z0 z1 kc ks (nI W) (nI H) aw ah fw fh cs oc li lo ra co he wa so se cr a1 a2 a3 a4 a5 a6 a7 a8 a9 a10 a11 a12 a13 a14 a15 := by
  refine br_t hz (pv_get0 hW hH ?_)
  rcases hZ with ⟨e, _, _, c⟩ | ⟨e, _, _, c⟩
  · exact br_t e (pv_L737 hp c h9 h11 hB hW hH)
  · exact br_f (pv_n1 e) (pv_L737 hp c h9 h11 hB hW hH)
theorem pv_L697 (hp : post 1 ()) (hz : z1 = z0) (hZ : pv_Z x12 x13 x14 x15 W H a1) (h9 : pv_G x6 x9) (h11 : pv_Pl x0 x1 x11) (hB : pv_B x5 x8 x12 a4 a5) (hW : 1 ≤ W ∧ W ≤ 12) (hH : 1 ≤ H ∧ H ≤ 12) : wL_lawOf_697 post mc ms x0 x1 x2 x5 x6 x7 x8 x9 x11 x12 x14 x15 z0 z1 kc ks (nI W) (nI H) aw ah fw fh cs oc li lo ra co he wa so se cr a1 a2 a3 a4 a5 a6 a7 a8 a9 a10 a11 a12 a13 a14 a15 := by
  refine br_t hz (pv_height ?_)
  have hZ' := hZ
  rcases hZ with ⟨e, _, c, _⟩ | ⟨e, _, c, _⟩
  · exact br_t e (pv_L716 hp c hZ' h9 h11 hB hW hH)
  · exact br_f (pv_n1 e) (pv_L716 hp c hZ' h9 h11 hB hW hH)
theorem pv_L678 (hp : post 1 ()) (hz : z1 = z0) (hZ : pv_Z x12 x13 x14 x15 W H a1) (h9 : pv_G x6 x9) (h11 : pv_Pl x0 x1 x11) (hB : pv_B x5 x8 x12 a4 a5) (hW : 1 ≤ W ∧ W ≤ 12) (hH : 1 ≤ H ∧ H ≤ 12) : wL_lawOf_678 post mc ms x0 x1 x2 x5 x6 x7 x8 x9 x11 x12 x13 x14 x15 z0 z1 kc ks (nI W) (nI H) aw ah fw fh cs oc li lo ra co he wa so se cr a1 a2 a3 a4 a5 a6 a7 a8 a9 a10 a11 a12 a13 a14 a15 := by
  refine br_t hz (pv_width ?_)
  have hZ' := hZ
  rcases hZ with ⟨e, c, _, _⟩ | ⟨e, c, _, _⟩
  · exact br_t e (pv_L697 hp c hZ' h9 h11 hB hW hH)
  · exact br_f (pv_n1 e) (pv_L697 hp c hZ' h9 h11 hB hW hH)
end PVSIZED
theorem pv_L653n (hp : post 1 ()) (h15 : z0 = 0) (hn : ¬ (¬ x13 < 1 ∧ ¬ 12 < x13 ∧ ¬ x14 < 1 ∧ ¬ 12 < x14)) (hc : pv_col a1 0 = x12) (h9 : pv_G x6 x9) (h11 : pv_Pl x0 x1 x11) (hB : pv_B x5 x8 x12 a4 a5) : wL_lawOf_653 post mc ms x0 x1 x2 x5 x6 x7 x8 x9 x11 x12 x13 x14 z0 kc ks 1 1 aw ah fw fh cs oc li lo ra co he wa so se cr a1 a2 a3 a4 a5 a6 a7 a8 a9 a10 a11 a12 a13 a14 a15 := by
  unfold wL_lawOf_653
  exact pv_blankN hn (br_t h15 (pv_L678 (W := 1) (H := 1) hp rfl (Or.inl ⟨h15, rfl, rfl, hc⟩) h9 h11 hB (by omega) (by omega)))
theorem pv_L653y {W H : Nat} (hp : post 1 ()) (h15 : z0 = 1) (hW : 1 ≤ W ∧ W ≤ 12) (hH : 1 ≤ H ∧ H ≤ 12) (h9 : pv_G x6 x9) (h11 : pv_Pl x0 x1 x11) (hB : pv_B x5 x8 x12 a4 a5) : wL_lawOf_653 post mc ms x0 x1 x2 x5 x6 x7 x8 x9 x11 x12 (nI W) (nI H) z0 kc ks w h aw ah fw fh cs oc li lo ra co he wa so se cr a1 a2 a3 a4 a5 a6 a7 a8 a9 a10 a11 a12 a13 a14 a15 := by
  unfold wL_lawOf_653
  exact pv_blankY hW hH (fun a1 e0 e1 e2 => br_f (pv_n1 h15) (pv_L678 hp rfl (Or.inr ⟨h15, rfl, rfl, pv_col0 e0 e1 e2⟩) h9 h11 hB hW hH))
theorem pv_L620 (hp : post 1 ()) (hc : pv_col a1 0 = x12) (h9 : pv_G x6 x9) (h11 : pv_Pl x0 x1 x11) (hB : pv_B x5 x8 x12 a4 a5) : wL_lawOf_620 post mc ms x0 x1 x2 x5 x6 x7 x8 x9 x11 x12 x13 z0 kc ks 1 1 aw ah fw fh cs oc li lo ra co he wa so se cr a1 a2 a3 a4 a5 a6 a7 a8 a9 a10 a11 a12 a13 a14 a15 := by
  have n : ¬ (¬ x13 < 1 ∧ ¬ 12 < x13 ∧ ¬ z0 < 1 ∧ ¬ 12 < z0) → wL_lawOf_652 post mc ms x0 x1 x2 x5 x6 x7 x8 x9 x11 x12 x13 z0 kc ks 1 1 aw ah fw fh cs oc li lo ra co he wa so se cr a1 a2 a3 a4 a5 a6 a7 a8 a9 a10 a11 a12 a13 a14 a15 := by
    intro hn
    unfold wL_lawOf_652
    exact pv_L653n hp rfl hn hc h9 h11 hB
  refine br_c (fun a => n (fun t => t.1 a)) (fun a => br_c (fun b => n (fun t => t.2.1 b)) (fun b => br_c (fun c => n (fun t => t.2.2.1 c)) (fun c => br_c (fun d => n (fun t => t.2.2.2 d)) (fun d => ?_))))
  obtain ⟨W, hW, rfl⟩ := pv_12 a b
  obtain ⟨H, hH, rfl⟩ := pv_12 c d
  exact pv_L653y hp rfl hW hH h9 h11 hB
theorem pv_L602 (hp : post 1 ()) (hc : pv_col a1 0 = x12) (h9 : pv_G x6 x9) (h11 : pv_Pl x0 x1 x11) (hB : pv_B x5 x8 x12 a4 a5) : wL_lawOf_602 post mc ms x0 x1 x2 x3 x5 x6 x7 x8 x9 x11 x12 z0 kc ks 1 1 aw ah fw fh cs oc li lo ra co he wa so se cr a1 a2 a3 a4 a5 a6 a7 a8 a9 a10 a11 a12 a13 a14 a15 :=
  br_c (fun _ => pv_L620 hp hc h9 h11 hB) (fun _ => pv_L620 hp hc h9 h11 hB)
theorem pv_L581 (hp : post 1 ()) (hz : z1 = z0) (hc : pv_col a1 0 = x12) (h9 : pv_G x6 x9) (h11 : pv_Pl x0 x1 x11) (hB : pv_B x5 x8 x12 a4 a5) : wL_lawOf_581 post mc ms x0 x1 x2 x3 x5 x6 x7 x8 x9 x11 x12 z0 z1 kc ks 1 1 aw ah fw fh cs oc li lo ra co he wa so se cr a1 a2 a3 a4 a5 a6 a7 a8 a9 a10 a11 a12 a13 a14 a15 :=
  br_t hz (br_c (fun _ => pv_L602 hp hc h9 h11 hB) (fun _ => pv_L602 hp hc h9 h11 hB))
theorem pv_L561 (hp : post 1 ()) (hz : z1 = z0) (hc : pv_col a1 0 = x12) (h9 : pv_G x6 x9) (h11 : pv_Pl x0 x1 x11) (hB : pv_B x5 x8 x12 a4 a5) : wL_lawOf_561 post mc ms x0 x1 x2 x3 x5 x6 x7 x8 x9 x11 x12 z0 z1 kc ks 1 1 aw ah fw fh cs oc li lo ra co he wa so se cr a1 a2 a3 a4 a5 a6 a7 a8 a9 a10 a11 a12 a13 a14 a15 := by
  refine br_t hz ?_
  have hB' := hB
  rcases hB with ⟨h8, hb⟩ | ⟨h8, k, R, G, B, hk, rfl, hu, hs, hc', ho⟩
  · exact pv_stateN hb (br_t h8 (pv_L581 hp rfl hc h9 h11 hB'))
  · exact pv_stateS hk hu hs (fun c => br_f (pv_n1 h8) (pv_L581 hp rfl hc h9 h11 hB'))
theorem pv_L519 (hp : post 1 ()) (hz : z1 = z0) (hc : pv_col a1 0 = x12) (h8 : pv_G x5 x8) (h9 : pv_G x6 x9) (h11 : pv_Pl x0 x1 x11) (h5 : ∀ k, k < 4 → a5 k = 0) : wL_lawOf_519 post mc ms x0 x1 x2 x3 x5 x6 x7 x8 x9 x11 x12 z0 z1 kc ks 1 1 aw ah fw fh cs oc li lo ra co he wa so se cr a1 a2 a3 a4 a5 a6 a7 a8 a9 a10 a11 a12 a13 a14 a15 := by
  refine br_t hz (pv_halve1 (fun b => br_t rfl (pv_get1 (fun _ => br_t hc ?_) (fun z => absurd ⟨rfl, rfl⟩ z))))
  rcases h8 with ⟨h8, hb⟩ | ⟨h8, k, hk, rfl⟩
  · exact pv_packN hb (br_t h8 (pv_L561 hp rfl hc h9 h11 (Or.inl ⟨h8, hb⟩)))
  · refine pv_packS hk (fun cs oc lo ra he wa cr a4 a6 a7 a8 a9 a10 a11 a12 a13 a14 a15 hs => br_f (pv_n1 h8) (pv_L561 hp rfl hc h9 h11 (Or.inr ⟨h8, k, _, _, _, hk, rfl, pk_us, hs, ?_, ?_⟩)))
    · exact hc.symm
    · intro j hj ne
      rw [pk_un ne]
      exact h5 j hj
theorem pv_L518 (hp : post 1 ()) (hz : z0 = -1) (hc : pv_col a1 0 = x12) (h8 : pv_G x5 x8) (h9 : pv_G x6 x9) (h11 : pv_Pl x0 x1 x11) (h5 : ∀ k, k < 4 → a5 k = 0) : wL_lawOf_518 post mc ms x0 x1 x2 x3 x5 x6 x7 x8 x9 x11 x12 z0 kc ks 1 1 aw ah fw fh cs oc li lo ra co he wa so se cr a1 a2 a3 a4 a5 a6 a7 a8 a9 a10 a11 a12 a13 a14 a15 := by
  unfold wL_lawOf_518
  exact pv_L519 hp hz hc h8 h9 h11 h5
theorem pv_L482 (hp : post 1 ()) (hz : z1 = z0) (h8 : pv_G x5 x8) (h9 : pv_G x6 x9) (h11 : pv_Pl x0 x1 x11) (h5 : ∀ k, k < 4 → a5 k = 0) : wL_lawOf_482 post mc ms x0 x1 x2 x3 x5 x6 x7 x8 x9 x11 z0 z1 kc ks 1 1 aw ah fw fh cs oc li lo ra co he wa so se cr a1 a2 a3 a4 a5 a6 a7 a8 a9 a10 a11 a12 a13 a14 a15 := by
  refine br_t hz (pv_get1 (fun _ => pv_turn1 (fun c => ?_) (fun c d b => ?_)) (fun z => absurd ⟨rfl, rfl⟩ z))
  · exact br_c (fun _ => pv_L518 hp rfl rfl h8 h9 h11 h5) (fun n => br_c (fun _ => pv_L518 hp rfl rfl h8 h9 h11 h5) (fun m => absurd c (fun t => t.elim n m)))
  · exact br_f c (br_f d (pv_L519 hp rfl rfl h8 h9 h11 h5))
end PVLAWB
end
section
/-! ===== the law's pieces ahead of the packing, and the law ===== -/
section PVLAWA
variable {w h aw ah fw fh cs oc li : Int32} {lo ra co : Int64} {he wa so se cr : Int32} {a1 a2 a3 a4 a5 a6 a7 a8 a9 a10 a11 a12 a13 a14 a15 : Nat → Int32} {post : Int32 → St0 → Prop} {mc ms kc ks : Nat} {x0 x1 x2 x3 x5 x6 x7 x8 x9 x10 x11 x12 z0 z1 : Int32}
/-- the law's own numbers: slot, other, good, also, none, place -/
def pv_H (x0 x1 x5 x6 x8 x9 x10 x11 : Int32) : Prop := pv_A x5 x10 ∧ pv_G x5 x8 ∧ pv_G x6 x9 ∧ pv_Pl x0 x1 x11
theorem pv_L437 (hp : post 1 ()) (hz : z1 = z0) (hH : pv_H x0 x1 x5 x6 x8 x9 x10 x11) (h5 : ∀ k, k < 4 → a5 k = 0) : wL_lawOf_437 post mc ms x0 x1 x2 x3 x5 x6 x7 x8 x9 x10 x11 z0 z1 kc ks 1 1 aw ah fw fh cs oc li lo ra co he wa so se cr a1 a2 a3 a4 a5 a6 a7 a8 a9 a10 a11 a12 a13 a14 a15 := by
  obtain ⟨hA, h8, h9, h11⟩ := hH
  refine br_t hz (pv_damage0 hA h5 (br_t rfl (pv_repair0 hA h5 (br_t rfl (pv_state0 h5 (fun c => ?_) (fun c => ?_))))))
  · have e8 : x8 = 0 := by
      rcases h8 with ⟨e, _⟩ | ⟨_, k, hk, e⟩
      · exact e
      · rw [e] at c
        exact absurd c (fun t => t.elim (nI_pos (by omega)) (nI_ge (b := 4) hk (by decide)))
    exact br_t e8 (pv_L482 hp rfl h8 h9 h11 h5)
  · have e8 : ¬ x8 = 0 := by
      rcases h8 with ⟨_, hb⟩ | ⟨e, _⟩
      · obtain ⟨k, hk, e⟩ := c
        rw [e] at hb
        exact absurd hb (fun t => t.elim (nI_pos (by omega)) (nI_ge (b := 4) hk (by decide)))
      · exact pv_n1 e
    exact br_f e8 (pv_L482 hp rfl h8 h9 h11 h5)
theorem pv_G0 (h : pv_G x6 x9) (c : x6 < 0 ∨ 4 ≤ x6) : x9 = 0 := by
  rcases h with ⟨e, _⟩ | ⟨_, k, hk, e⟩
  · exact e
  · rw [e] at c
    exact absurd c (fun t => t.elim (nI_pos (by omega)) (nI_ge (b := 4) hk (by decide)))
theorem pv_G1 (h : pv_G x6 x9) (c : ∃ k, k < 4 ∧ x6 = nI k) : ¬ x9 = 0 := by
  rcases h with ⟨_, hb⟩ | ⟨e, _⟩
  · obtain ⟨k, hk, e⟩ := c
    rw [e] at hb
    exact absurd hb (fun t => t.elim (nI_pos (by omega)) (nI_ge (b := 4) hk (by decide)))
  · exact pv_n1 e
theorem pv_L400 (hp : post 1 ()) (hz : z1 = z0) (hH : pv_H x0 x1 x5 x6 x8 x9 x10 x11) (h5 : ∀ k, k < 4 → a5 k = 0) : wL_lawOf_400 post mc ms x0 x1 x2 x3 x5 x6 x7 x8 x9 x10 x11 z0 z1 kc ks 1 1 aw ah fw fh cs oc li lo ra co he wa so se cr a1 a2 a3 a4 a5 a6 a7 a8 a9 a10 a11 a12 a13 a14 a15 :=
  br_t hz (pv_clear0 hH.1 h5 (br_t rfl (pv_copy0 hH.1 h5 (fun c => br_t (pv_G0 hH.2.2.1 c) (pv_L437 hp rfl hH h5)) (fun c => br_f (pv_G1 hH.2.2.1 c) (pv_L437 hp rfl hH h5)))))
theorem pv_L399 (hp : post 1 ()) (hz : z0 = -1) (hH : pv_H x0 x1 x5 x6 x8 x9 x10 x11) (h5 : ∀ k, k < 4 → a5 k = 0) : wL_lawOf_399 post mc ms x0 x1 x2 x3 x5 x6 x7 x8 x9 x10 x11 z0 kc ks 1 1 aw ah fw fh cs oc li lo ra co he wa so se cr a1 a2 a3 a4 a5 a6 a7 a8 a9 a10 a11 a12 a13 a14 a15 := by
  unfold wL_lawOf_399
  exact pv_L400 hp hz hH h5
theorem pv_L371 (hp : post 1 ()) (hz : z1 = z0) (hH : pv_H x0 x1 x5 x6 x8 x9 x10 x11) (h5 : ∀ k, k < 4 → a5 k = 0) : wL_lawOf_371 post mc ms x0 x1 x2 x3 x5 x6 x7 x8 x9 x10 x11 z0 z1 kc ks 1 1 aw ah fw fh cs oc li lo ra co he wa so se cr a1 a2 a3 a4 a5 a6 a7 a8 a9 a10 a11 a12 a13 a14 a15 := by
  refine br_t hz (pv_rework0 hH.1 h5 (fun c d => ?_) (fun c => ?_))
  · exact br_f c (br_f d (pv_L400 hp rfl hH h5))
  · exact br_c (fun _ => pv_L399 hp rfl hH h5) (fun n => br_c (fun _ => pv_L399 hp rfl hH h5) (fun m => absurd c (fun t => t.elim n m)))
theorem pv_L334 (hp : post 1 ()) (hz : z1 = z0) (hH : pv_H x0 x1 x5 x6 x8 x9 x10 x11) (h5 : ∀ k, k < 4 → a5 k = 0) : wL_lawOf_334 post mc ms x0 x1 x2 x3 x5 x6 x7 x8 x9 x10 x11 z0 z1 kc ks 1 1 aw ah fw fh cs oc li lo ra co he wa so se cr a1 a2 a3 a4 a5 a6 a7 a8 a9 a10 a11 a12 a13 a14 a15 :=
  br_t hz (pv_peek0 hH.1 h5 (br_t rfl (pv_same0 hH.1 h5 (fun c => br_t (pv_G0 hH.2.2.1 c) (pv_L371 hp rfl hH h5)) (fun c => br_f (pv_G1 hH.2.2.1 c) (pv_L371 hp rfl hH h5)))))
theorem pv_L328 (hp : post 1 ()) (hz : z0 = x10) (hH : pv_H x0 x1 x5 x6 x8 x9 x10 x11) (h5 : ∀ k, k < 4 → a5 k = 0) : wL_lawOf_328 post mc ms x0 x1 x2 x3 x5 x6 x7 x8 x9 x10 x11 z0 kc ks 1 1 aw ah fw fh cs oc li lo ra co he wa so se cr a1 a2 a3 a4 a5 a6 a7 a8 a9 a10 a11 a12 a13 a14 a15 := by
  unfold wL_lawOf_328
  exact pv_L334 hp hz hH h5
theorem pv_L275 (hp : post 1 ()) (hz : z1 = z0) (hH : pv_H x0 x1 x5 x6 x8 x9 x10 x11) (h5 : ∀ k, k < 4 → a5 k = 0) : wL_lawOf_275 post mc ms x0 x1 x2 x3 x5 x6 x7 x8 x9 x10 x11 z0 z1 kc ks 1 1 aw ah fw fh cs oc li lo ra co he wa so se cr a1 a2 a3 a4 a5 a6 a7 a8 a9 a10 a11 a12 a13 a14 a15 := by
  refine br_t hz (pv_digest1 (pv_get1 (fun _ => br_t rfl (pv_unpack0 hH.1 h5 (br_t rfl (pv_preview0 hH.1 h5 (fun c => ?_) (fun c d => ?_))))) (fun z => absurd ⟨rfl, rfl⟩ z)))
  · exact br_c (fun _ => pv_L328 hp rfl hH h5) (fun n => br_c (fun _ => pv_L328 hp rfl hH h5) (fun m => absurd c (fun t => t.elim n m)))
  · exact br_f c (br_f d (pv_L334 hp rfl hH h5))
theorem pv_L274 (hp : post 1 ()) (hz : z0 = 5) (hH : pv_H x0 x1 x5 x6 x8 x9 x10 x11) (h5 : ∀ k, k < 4 → a5 k = 0) : wL_lawOf_274 post mc ms x0 x1 x2 x3 x5 x6 x7 x8 x9 x10 x11 z0 kc ks 1 1 aw ah fw fh cs oc li lo ra co he wa so se cr a1 a2 a3 a4 a5 a6 a7 a8 a9 a10 a11 a12 a13 a14 a15 := by
  unfold wL_lawOf_274
  exact pv_L275 hp hz hH h5
theorem pv_notC (h : ¬ ∃ n, n < 16777216 ∧ x2 = nI n) (a : ¬ x2 < 0) (b : ¬ 16777216 ≤ x2) : False := h (pv_nn (n := 16777216) (by decide) a b)
theorem pv_isC (h : ∃ n, n < 16777216 ∧ x2 = nI n) : ¬ x2 < 0 ∧ ¬ 16777216 ≤ x2 := by
  obtain ⟨n, hn, rfl⟩ := h
  exact ⟨nI_pos (by omega), nI_ge hn (by decide)⟩
theorem pv_L250 (hp : post 1 ()) (hz : z1 = z0) (hc : ((∃ n, n < 16777216 ∧ x2 = nI n) ∧ pv_col a1 0 = x2) ∨ ((¬ ∃ n, n < 16777216 ∧ x2 = nI n) ∧ pv_col a1 0 = 5)) (hH : pv_H x0 x1 x5 x6 x8 x9 x10 x11) (h5 : ∀ k, k < 4 → a5 k = 0) : wL_lawOf_250 post mc ms x0 x1 x2 x3 x5 x6 x7 x8 x9 x10 x11 z0 z1 kc ks 1 1 aw ah fw fh cs oc li lo ra co he wa so se cr a1 a2 a3 a4 a5 a6 a7 a8 a9 a10 a11 a12 a13 a14 a15 := by
  refine br_t hz (pv_get1 (fun _ => ?_) (fun z => absurd ⟨rfl, rfl⟩ z))
  rcases hc with ⟨a, c⟩ | ⟨a, c⟩
  · exact br_f (pv_isC a).1 (br_f (pv_isC a).2 (pv_L275 hp c hH h5))
  · exact br_c (fun _ => pv_L274 hp c hH h5) (fun m => br_c (fun _ => pv_L274 hp c hH h5) (fun n => (pv_notC a m n).elim))
theorem pv_L249 (hp : post 1 ()) (hz : z0 = -1) (hc : ((∃ n, n < 16777216 ∧ x2 = nI n) ∧ pv_col a1 0 = x2) ∨ ((¬ ∃ n, n < 16777216 ∧ x2 = nI n) ∧ pv_col a1 0 = 5)) (hH : pv_H x0 x1 x5 x6 x8 x9 x10 x11) (h5 : ∀ k, k < 4 → a5 k = 0) : wL_lawOf_249 post mc ms x0 x1 x2 x3 x5 x6 x7 x8 x9 x10 x11 z0 kc ks 1 1 aw ah fw fh cs oc li lo ra co he wa so se cr a1 a2 a3 a4 a5 a6 a7 a8 a9 a10 a11 a12 a13 a14 a15 := by
  unfold wL_lawOf_249
  exact pv_L250 hp hz hc hH h5
theorem pv_col5 {a : Nat → Int32} : pv_col (pv_put a 0 5) 0 = 5 := pv_colPut (n := 5) (by decide)
theorem pv_L211 (hp : post 1 ()) (hz : z1 = z0) (hc : ¬ pv_col a1 0 < 0) (hH : pv_H x0 x1 x5 x6 x8 x9 x10 x11) (h5 : ∀ k, k < 4 → a5 k = 0) : wL_lawOf_211 post mc ms x0 x1 x2 x3 x5 x6 x7 x8 x9 x10 x11 z0 z1 kc ks 1 1 aw ah fw fh cs oc li lo ra co he wa so se cr a1 a2 a3 a4 a5 a6 a7 a8 a9 a10 a11 a12 a13 a14 a15 := by
  refine br_t hz (pv_set1 (fun z => absurd ⟨rfl, rfl, 5, by decide, rfl⟩ z) (fun _ _ _ => br_f hc (pv_set1 (fun z => ?_) (fun _ _ y => ?_))))
  · have a : ¬ ∃ n, n < 16777216 ∧ x2 = nI n := fun t => z ⟨rfl, rfl, t⟩
    exact br_c (fun _ => pv_L249 hp rfl (Or.inr ⟨a, pv_col5⟩) hH h5) (fun m => br_c (fun _ => pv_L249 hp rfl (Or.inr ⟨a, pv_col5⟩) hH h5) (fun n => (pv_notC a m n).elim))
  · refine br_f (pv_isC y).1 (br_f (pv_isC y).2 (pv_L250 hp pv_col5 (Or.inl ⟨y, ?_⟩) hH h5))
    obtain ⟨n, hn, rfl⟩ := y
    exact pv_colPut hn
theorem pv_L210 (hp : post 1 ()) (hz : z0 = -1) (hc : ¬ pv_col a1 0 < 0) (hH : pv_H x0 x1 x5 x6 x8 x9 x10 x11) (h5 : ∀ k, k < 4 → a5 k = 0) : wL_lawOf_210 post mc ms x0 x1 x2 x3 x5 x6 x7 x8 x9 x10 x11 z0 kc ks 1 1 aw ah fw fh cs oc li lo ra co he wa so se cr a1 a2 a3 a4 a5 a6 a7 a8 a9 a10 a11 a12 a13 a14 a15 := by
  unfold wL_lawOf_210
  exact pv_L211 hp hz hc hH h5
theorem pv_L170 (hp : post 1 ()) (hz : z1 = z0) (hc : pv_col a1 0 = 0) (hH : pv_H x0 x1 x5 x6 x8 x9 x10 x11) (h5 : ∀ k, k < 4 → a5 k = 0) : wL_lawOf_170 post mc ms x0 x1 x2 x3 x5 x6 x7 x8 x9 x10 x11 z0 z1 kc ks 1 1 aw ah fw fh cs oc li lo ra co he wa so se cr a1 a2 a3 a4 a5 a6 a7 a8 a9 a10 a11 a12 a13 a14 a15 := by
  have hn : ¬ pv_col a1 0 < 0 := by rw [hc]; decide
  refine br_t hz (pv_get1 (fun _ => br_t hc (pv_set1 (fun z => ?_) (fun e0 e1 y => ?_))) (fun z => absurd ⟨rfl, rfl⟩ z))
  · refine br_c (fun _ => pv_L210 hp rfl hn hH h5) (fun n11 => br_c (fun _ => pv_L210 hp rfl hn hH h5) (fun m => br_c (fun _ => pv_L210 hp rfl hn hH h5) (fun n => ?_)))
    rcases hH.2.2.2 with ⟨e, _⟩ | ⟨_, e⟩
    · exact absurd e n11
    · exact absurd ⟨e.1, e.2, pv_nn (n := 16777216) (by decide) m n⟩ z
  · have e11 : ¬ x11 = 0 := by
      rcases hH.2.2.2 with ⟨_, e⟩ | ⟨e, _⟩
      · exact absurd ⟨e0, e1⟩ e
      · exact pv_n1 e
    refine br_f e11 (br_f (pv_isC y).1 (br_f (pv_isC y).2 (pv_L211 hp hc ?_ hH h5)))
    obtain ⟨n, hn, rfl⟩ := y
    rw [pv_colPut hn]
    exact nI_pos (by omega)
theorem pv_L125 (hp : post 1 ()) (hc : pv_col a1 0 = 0) (hH : pv_H x0 x1 x5 x6 x8 x9 x10 z0) (h5 : ∀ k, k < 4 → a5 k = 0) : wL_lawOf_125 post mc ms x0 x1 x2 x3 x5 x6 x7 x8 x9 x10 z0 kc ks 1 1 aw ah fw fh cs oc li lo ra co he wa so se cr a1 a2 a3 a4 a5 a6 a7 a8 a9 a10 a11 a12 a13 a14 a15 := by
  refine pv_width (br_t rfl (pv_height (br_t rfl (pv_digest1 (br_t hc (pv_get1 (fun e => ?_) (fun e => ?_)))))))
  · have e11 : ¬ z0 = 0 := by
      rcases hH.2.2.2 with ⟨_, n⟩ | ⟨y, _⟩
      · exact absurd e n
      · exact pv_n1 y
    exact br_f e11 (pv_L170 hp hc hc hH h5)
  · have e11 : z0 = 0 := by
      rcases hH.2.2.2 with ⟨y, _⟩ | ⟨_, y⟩
      · exact y
      · exact absurd y e
    exact br_t e11 (pv_L170 hp rfl hc hH h5)
theorem pv_L110 (hp : post 1 ()) (hc : pv_col a1 0 = 0) (hA : pv_A x5 z0) (h8 : pv_G x5 x8) (h9 : pv_G x6 x9) (h5 : ∀ k, k < 4 → a5 k = 0) : wL_lawOf_110 post mc ms x0 x1 x2 x3 x5 x6 x7 x8 x9 z0 kc ks 1 1 aw ah fw fh cs oc li lo ra co he wa so se cr a1 a2 a3 a4 a5 a6 a7 a8 a9 a10 a11 a12 a13 a14 a15 := by
  have n : ¬ (x0 = 0 ∧ x1 = 0) → wL_lawOf_124 post mc ms x0 x1 x2 x3 x5 x6 x7 x8 x9 z0 kc ks 1 1 aw ah fw fh cs oc li lo ra co he wa so se cr a1 a2 a3 a4 a5 a6 a7 a8 a9 a10 a11 a12 a13 a14 a15 := by
    intro hn
    unfold wL_lawOf_124
    exact pv_L125 hp hc ⟨hA, h8, h9, Or.inl ⟨rfl, hn⟩⟩ h5
  exact br_c (fun a => br_c (fun b => pv_L125 hp hc ⟨hA, h8, h9, Or.inr ⟨rfl, a, b⟩⟩ h5) (fun b => n (fun t => b t.2))) (fun a => n (fun t => a t.1))
theorem pv_L97 (hp : post 1 ()) (hc : pv_col a1 0 = 0) (h8 : pv_G x5 x8) (h9 : pv_G x6 z0) (h5 : ∀ k, k < 4 → a5 k = 0) : wL_lawOf_97 post mc ms x0 x1 x2 x3 x5 x6 x7 x8 z0 kc ks 1 1 aw ah fw fh cs oc li lo ra co he wa so se cr a1 a2 a3 a4 a5 a6 a7 a8 a9 a10 a11 a12 a13 a14 a15 := by
  have h8' := h8
  rcases h8 with ⟨e, hb⟩ | ⟨e, hk⟩
  · exact br_t e (pv_L110 hp hc (Or.inl ⟨rfl, hb⟩) h8' h9 h5)
  · exact br_f (pv_n1 e) (pv_L110 hp hc (Or.inr ⟨rfl, hk⟩) h8' h9 h5)
theorem pv_L79 (hp : post 1 ()) (hc : pv_col a1 0 = 0) (h8 : pv_G x5 z0) (h5 : ∀ k, k < 4 → a5 k = 0) : wL_lawOf_79 post mc ms x0 x1 x2 x3 x5 x6 x7 z0 kc ks 1 1 aw ah fw fh cs oc li lo ra co he wa so se cr a1 a2 a3 a4 a5 a6 a7 a8 a9 a10 a11 a12 a13 a14 a15 := by
  have n : (x6 < 0 ∨ 4 ≤ x6) → wL_lawOf_96 post mc ms x0 x1 x2 x3 x5 x6 x7 z0 kc ks 1 1 aw ah fw fh cs oc li lo ra co he wa so se cr a1 a2 a3 a4 a5 a6 a7 a8 a9 a10 a11 a12 a13 a14 a15 := by
    intro hb
    unfold wL_lawOf_96
    exact pv_L97 hp hc h8 (Or.inl ⟨rfl, hb⟩) h5
  exact br_c (fun a => n (Or.inl a)) (fun a => br_c (fun b => n (Or.inr b)) (fun b => pv_L97 hp hc h8 (Or.inr ⟨rfl, pv_in4 a b⟩) h5))
theorem pv_L61 (hp : post 1 ()) (hc : pv_col a1 0 = 0) (h5 : ∀ k, k < 4 → a5 k = 0) : wL_lawOf_61 post mc ms x0 x1 x2 x3 x5 x6 z0 kc ks 1 1 aw ah fw fh cs oc li lo ra co he wa so se cr a1 a2 a3 a4 a5 a6 a7 a8 a9 a10 a11 a12 a13 a14 a15 := by
  have n : (x5 < 0 ∨ 4 ≤ x5) → wL_lawOf_78 post mc ms x0 x1 x2 x3 x5 x6 z0 kc ks 1 1 aw ah fw fh cs oc li lo ra co he wa so se cr a1 a2 a3 a4 a5 a6 a7 a8 a9 a10 a11 a12 a13 a14 a15 := by
    intro hb
    unfold wL_lawOf_78
    exact pv_L79 hp hc (Or.inl ⟨rfl, hb⟩) h5
  exact br_c (fun a => n (Or.inl a)) (fun a => br_c (fun b => n (Or.inr b)) (fun b => pv_L79 hp hc (Or.inr ⟨rfl, pv_in4 a b⟩) h5))
theorem pv_L43 (hp : post 1 ()) (hc : pv_col a1 0 = 0) (h5 : ∀ k, k < 4 → a5 k = 0) : wL_lawOf_43 post mc ms x0 x1 x2 x3 x5 z0 kc ks 1 1 aw ah fw fh cs oc li lo ra co he wa so se cr a1 a2 a3 a4 a5 a6 a7 a8 a9 a10 a11 a12 a13 a14 a15 :=
  br_c (fun _ => pv_L61 hp hc h5) (fun _ => pv_L61 hp hc h5)
theorem pv_L25 (hp : post 1 ()) (hc : pv_col a1 0 = 0) (h5 : ∀ k, k < 4 → a5 k = 0) : wL_lawOf_25 post mc ms x0 x1 x2 x3 z0 kc ks 1 1 aw ah fw fh cs oc li lo ra co he wa so se cr a1 a2 a3 a4 a5 a6 a7 a8 a9 a10 a11 a12 a13 a14 a15 :=
  br_c (fun _ => pv_L43 hp hc h5) (fun _ => pv_L43 hp hc h5)
theorem pv_lawOf (hp : post 1 ()) : wpL_lawOf post 2636 42176 () x0 x1 x2 x3 := by
  refine ⟨by omega, by omega, 15, 5171, by omega, by omega, ?_⟩
  refine ⟨by omega, by omega, by omega, by omega, by omega, by omega, by omega, by omega, by omega, by omega, by omega, by omega, by omega, by omega, by omega, by omega, by omega, by omega, by omega, by omega, by omega, by omega, by omega, by omega, by omega, by omega, by omega, by omega, by omega, by omega, ?_⟩
  exact br_c (fun _ => pv_L25 hp (pv_col0 rfl rfl rfl) (fun _ _ => rfl)) (fun _ => pv_L25 hp (pv_col0 rfl rfl rfl) (fun _ _ => rfl))
theorem pv_cell {q : Int32 → Prop} {L i : Nat} {xs : Nat → Int32} (hL : L ≤ 4) (hi : i < 4) (hp : ∀ v, q v) : wpL_cellAt q L xs () (nI i) :=
  br_c (fun _ => hp 0) (fun c => ⟨pk_in i L (Nat.lt_of_not_le (fun z => c (nI_le z (by omega)))), hp _⟩)
end PVLAWA
theorem i_vc (xs : Nat → Int32) (L : Nat) (hL : L ≤ 4) : wpL_law (fun r => r = 1) L xs := by
  unfold wpL_law
  refine pv_cell (i := 0) hL (by omega) (fun v0 => ?_)
  refine pv_cell (i := 1) hL (by omega) (fun v1 => ?_)
  refine pv_cell (i := 2) hL (by omega) (fun v2 => ?_)
  refine pv_cell (i := 3) hL (by omega) (fun v3 => ?_)
  exact ⟨2636, 42176, by omega, by omega, pv_lawOf rfl⟩
end
