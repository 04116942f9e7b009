section
/-! bits of Int32 (qa_b) and Int64 (qa_d); the law's triple of longs (qa_w) -/
def qa_b (x : Int32) (i : Nat) : Bool := x.toBitVec.getLsbD i
def qa_d (x : Int64) (i : Nat) : Bool := x.toBitVec.getLsbD i
theorem qa_bext {x y : Int32} (h : ∀ i, i < 32 → qa_b x i = qa_b y i) : x = y := Int32.toBitVec_inj.mp (BitVec.eq_of_getLsbD_eq (fun i hi => h i hi))
theorem qa_bor (x y : Int32) (i : Nat) : qa_b (x ||| y) i = (qa_b x i || qa_b y i) := by unfold qa_b; rw [Int32.toBitVec_or, BitVec.getLsbD_or]
theorem qa_band (x y : Int32) (i : Nat) : qa_b (x &&& y) i = (qa_b x i && qa_b y i) := by unfold qa_b; rw [Int32.toBitVec_and, BitVec.getLsbD_and]
theorem qa_bbig {x : Int32} {i : Nat} (h : 32 ≤ i) : qa_b x i = false := BitVec.getLsbD_of_ge _ _ h
theorem qa_dbig {x : Int64} {i : Nat} (h : 64 ≤ i) : qa_d x i = false := BitVec.getLsbD_of_ge _ _ h
theorem qa_b255 (i : Nat) : qa_b 255 i = decide (i < 8) := by
  rcases Nat.lt_or_ge i 32 with h | h
  · exact (by decide +kernel : ∀ i, i < 32 → qa_b 255 i = decide (i < 8)) i h
  · rw [qa_bbig h, decide_eq_false (by omega)]
theorem qa_d255 (i : Nat) : qa_d 255 i = decide (i < 8) := by
  rcases Nat.lt_or_ge i 64 with h | h
  · exact (by decide +kernel : ∀ i, i < 64 → qa_d 255 i = decide (i < 8)) i h
  · rw [qa_dbig h, decide_eq_false (by omega)]
theorem qa_b1 (i : Nat) : qa_b 1 i = decide (i = 0) := by
  rcases Nat.lt_or_ge i 32 with h | h
  · exact (by decide +kernel : ∀ i, i < 32 → qa_b 1 i = decide (i = 0)) i h
  · rw [qa_bbig h, decide_eq_false (by omega)]
theorem qa_dm1 : ∀ i, i < 64 → qa_d (-1) i = true := by decide +kernel
theorem qa_b0 (i : Nat) : qa_b 0 i = false := BitVec.getLsbD_zero
theorem qa_sl : ∀ n, n < 32 → ((nI n &&& 31).toBitVec.smod 32).toNat = n := by decide +kernel
theorem qa_bshl (n : Nat) (hn : n < 32) (x : Int32) {i : Nat} (hi : i < 32) : qa_b (x <<< (nI n &&& 31)) i = (decide (n ≤ i) && qa_b x (i - n)) := by
  unfold qa_b
  rw [Int32.toBitVec_shiftLeft]
  show (x.toBitVec <<< ((nI n &&& 31).toBitVec.smod 32).toNat).getLsbD i = _
  rw [qa_sl n hn, BitVec.getLsbD_shiftLeft]
  rcases Nat.lt_or_ge i n with h | h
  · simp [h, Nat.not_le.mpr h]
  · simp [hi, h, Nat.not_lt.mpr h]
theorem qa_bsshr (n : Nat) (hn : n < 32) (x : Int32) {i : Nat} (hi : i < 32) : qa_b (x >>> (nI n &&& 31)) i = if n + i < 32 then qa_b x (n + i) else qa_b x 31 := by
  unfold qa_b
  rw [Int32.toBitVec_shiftRight]
  show (x.toBitVec.sshiftRight ((nI n &&& 31).toBitVec.smod 32).toNat).getLsbD i = _
  rw [qa_sl n hn, BitVec.getLsbD_sshiftRight, BitVec.msb_eq_getLsbD_last]
  simp [hi]
theorem qa_bnI (m : Nat) {i : Nat} (hi : i < 32) : qa_b (nI m) i = m.testBit i := by
  show (BitVec.ofNat 32 m).getLsbD i = _
  rw [BitVec.getLsbD_ofNat]
  simp [hi]
theorem qa_dlN (m : Nat) {i : Nat} (hi : i < 64) : qa_d (lN m) i = m.testBit i := by
  show (BitVec.ofNat 64 m).getLsbD i = _
  rw [BitVec.getLsbD_ofNat]
  simp [hi]
/-- one byte of an int -/
def qa_by (x : Int32) (j : Nat) : Int32 := (x >>> ((8 * nI j) &&& 31)) &&& 255
theorem qa_byE (x : Int32) (j : Nat) : ∃ t : Nat, t < 256 ∧ qa_by x j = nI t := pk_andE _ 8 (by decide)
theorem qa_pt (X : Nat) {j : Nat} (hj : j < 4) : (nI X >>> ((8 * nI j) &&& 31)) &&& 255 = nI (X / 2 ^ (8 * j) % 2 ^ 8) := by
  rw [show (8 : Int32) * nI j = nI (8 * j) from pk_mul 8 j]
  apply qa_bext
  intro i hi
  rw [qa_band, qa_b255, qa_bsshr (8 * j) (by omega) _ hi, qa_bnI _ hi, Nat.testBit_mod_two_pow, Nat.testBit_div_two_pow]
  by_cases h : i < 8
  · rw [if_pos (by omega), qa_bnI _ (by omega), decide_eq_true h, Bool.and_true, Bool.true_and, Nat.add_comm]
  · rw [decide_eq_false h, Bool.and_false, Bool.false_and]
/-- the law's points: four bytes in an int -/
def qa_pts (P : Nat → Nat) : Nat := P 0 + 256 * P 1 + 65536 * P 2 + 16777216 * P 3
theorem qa_ptP {P : Nat → Nat} (h : ∀ s, s < 4 → P s ≤ 240) {s : Nat} (hs : s < 4) : (nI (qa_pts P) >>> ((8 * nI s) &&& 31)) &&& 255 = nI (P s) := by
  rw [qa_pt _ hs]
  have h0 := h 0 (by omega)
  have h1 := h 1 (by omega)
  have h2 := h 2 (by omega)
  have h3 := h 3 (by omega)
  congr 1
  unfold qa_pts
  have hc : s = 0 ∨ s = 1 ∨ s = 2 ∨ s = 3 := by omega
  rcases hc with e | e | e | e
  · subst e
    show (P 0 + 256 * P 1 + 65536 * P 2 + 16777216 * P 3) / 1 % 256 = P 0
    omega
  · subst e
    show (P 0 + 256 * P 1 + 65536 * P 2 + 16777216 * P 3) / 256 % 256 = P 1
    omega
  · subst e
    show (P 0 + 256 * P 1 + 65536 * P 2 + 16777216 * P 3) / 65536 % 256 = P 2
    omega
  · subst e
    show (P 0 + 256 * P 1 + 65536 * P 2 + 16777216 * P 3) / 16777216 % 256 = P 3
    omega
theorem qa_one : ∀ s, s < 4 → (1 : Int32) <<< ((8 * nI s) &&& 31) = nI (2 ^ (8 * s)) := by decide +kernel
/-- a function changed at one place -/
def qa_fu {α : Type} (f : Nat → α) (s : Nat) (v : α) : Nat → α := fun j => if j = s then v else f j
theorem qa_fus {α : Type} {f : Nat → α} {s : Nat} {v : α} : qa_fu f s v s = v := if_pos rfl
theorem qa_fun {α : Type} {f : Nat → α} {s j : Nat} {v : α} (h : j ≠ s) : qa_fu f s v j = f j := if_neg h
theorem qa_ptU (P : Nat → Nat) {s : Nat} (hs : s < 4) : nI (qa_pts P) + ((1 : Int32) <<< ((8 * nI s) &&& 31)) = nI (qa_pts (qa_fu P s (P s + 1))) := by
  rw [qa_one s hs, nI_add]
  congr 1
  unfold qa_pts qa_fu
  have hc : s = 0 ∨ s = 1 ∨ s = 2 ∨ s = 3 := by omega
  rcases hc with e | e | e | e
  · subst e
    show P 0 + 256 * P 1 + 65536 * P 2 + 16777216 * P 3 + 1 = (P 0 + 1) + 256 * P 1 + 65536 * P 2 + 16777216 * P 3
    omega
  · subst e
    show P 0 + 256 * P 1 + 65536 * P 2 + 16777216 * P 3 + 256 = P 0 + 256 * (P 1 + 1) + 65536 * P 2 + 16777216 * P 3
    omega
  · subst e
    show P 0 + 256 * P 1 + 65536 * P 2 + 16777216 * P 3 + 65536 = P 0 + 256 * P 1 + 65536 * (P 2 + 1) + 16777216 * P 3
    omega
  · subst e
    show P 0 + 256 * P 1 + 65536 * P 2 + 16777216 * P 3 + 16777216 = P 0 + 256 * P 1 + 65536 * P 2 + 16777216 * (P 3 + 1)
    omega
/-! the mask -/
theorem qa_and1 (y : Int32) : (y &&& 1) = 0 ↔ qa_b y 0 = false := by
  constructor
  · intro h
    have t := congrArg (fun z => qa_b z 0) h
    simp only [qa_band, qa_b1, qa_b0] at t
    simpa using t
  · intro h
    apply qa_bext
    intro i hi
    rw [qa_band, qa_b1, qa_b0]
    by_cases e : i = 0
    · subst e
      rw [h, Bool.false_and]
    · rw [decide_eq_false e, Bool.and_false]
theorem qa_tst (x : Int32) {k : Nat} (hk : k < 32) : ((x >>> (nI k &&& 31)) &&& 1) = 0 ↔ qa_b x k = false := by
  rw [qa_and1, qa_bsshr k hk x (by omega), if_pos (by omega), Nat.add_zero]
theorem qa_set (x : Int32) {k i : Nat} (hk : k < 32) (hi : i < 32) : qa_b (x ||| ((1 : Int32) <<< (nI k &&& 31))) i = (qa_b x i || decide (i = k)) := by
  rw [qa_bor, qa_bshl k hk 1 hi, qa_b1]
  by_cases h : i = k
  · subst h
    simp
  · by_cases h2 : k ≤ i
    · simp [h, show ¬ i - k = 0 by omega]
    · simp [h, h2]
theorem qa_hlf (x : Int32) {i : Nat} (hi : i < 31) : qa_b (x >>> ((1 : Int32) &&& 31)) i = qa_b x (i + 1) := by
  have h := qa_bsshr 1 (by omega) x (i := i) (by omega)
  rw [if_pos (by omega), Nat.add_comm] at h
  exact h
theorem qa_hlf31 (x : Int32) : qa_b (x >>> ((1 : Int32) &&& 31)) 31 = qa_b x 31 := by
  have h := qa_bsshr 1 (by omega) x (i := 31) (by omega)
  rw [if_neg (by omega)] at h
  exact h
/-! longs -/
theorem qa_s64 : ∀ k, k < 64 → (((nI k).toInt64 &&& 63).toBitVec.smod 64).toNat = k := by decide +kernel
theorem qa_dor (x y : Int64) (i : Nat) : qa_d (x ||| y) i = (qa_d x i || qa_d y i) := by unfold qa_d; rw [Int64.toBitVec_or, BitVec.getLsbD_or]
theorem qa_dand (x y : Int64) (i : Nat) : qa_d (x &&& y) i = (qa_d x i && qa_d y i) := by unfold qa_d; rw [Int64.toBitVec_and, BitVec.getLsbD_and]
theorem qa_dxor (x y : Int64) (i : Nat) : qa_d (x ^^^ y) i = (qa_d x i ^^ qa_d y i) := by unfold qa_d; rw [Int64.toBitVec_xor, BitVec.getLsbD_xor]
theorem qa_dshl (n : Nat) (hn : n < 64) (x : Int64) {i : Nat} (hi : i < 64) : qa_d (x <<< ((nI n).toInt64 &&& 63)) i = (decide (n ≤ i) && qa_d x (i - n)) := by
  unfold qa_d
  rw [Int64.toBitVec_shiftLeft]
  show (x.toBitVec <<< (((nI n).toInt64 &&& 63).toBitVec.smod 64).toNat).getLsbD i = _
  rw [qa_s64 n hn, BitVec.getLsbD_shiftLeft]
  rcases Nat.lt_or_ge i n with h | h
  · simp [h, Nat.not_le.mpr h]
  · simp [hi, h, Nat.not_lt.mpr h]
theorem qa_dush (x : Int64) (i : Nat) : qa_d ((x.toUInt64 >>> ((8 : Int32).toInt64.toUInt64 &&& Int64.toUInt64 63)).toInt64) i = qa_d x (8 + i) := by
  show (x.toUInt64 >>> ((8 : Int32).toInt64.toUInt64 &&& Int64.toUInt64 63)).toBitVec.getLsbD i = x.toUInt64.toBitVec.getLsbD (8 + i)
  rw [UInt64.toBitVec_shiftRight]
  show (x.toUInt64.toBitVec >>> (((8 : Int32).toInt64.toUInt64 &&& Int64.toUInt64 63).toBitVec % 64).toNat).getLsbD i = _
  rw [show (((8 : Int32).toInt64.toUInt64 &&& Int64.toUInt64 63).toBitVec % 64).toNat = 8 by decide, BitVec.getLsbD_ushiftRight]
theorem qa_dget (x : Int64) {i : Nat} (hi : i < 32) : qa_b (((x >>> ((8 * (0 : Int32)).toInt64 &&& 63)).toInt32) &&& 255) i = (decide (i < 8) && qa_d x i) := by
  rw [qa_band, qa_b255]
  have h : qa_b ((x >>> ((8 * (0 : Int32)).toInt64 &&& 63)).toInt32) i = qa_d x i := by
    unfold qa_b qa_d
    rw [Int64.toBitVec_toInt32, Int64.toBitVec_shiftRight, BitVec.getLsbD_signExtend, BitVec.getLsbD_sshiftRight']
    rw [show ((((8 * (0 : Int32)).toInt64 &&& 63).toBitVec).smod 64).toNat = 0 by decide]
    simp [hi, show i < 64 by omega]
  rw [h, Bool.and_comm]
/-- bit i of the three longs in a row -/
def qa_w (x y z : Int64) (i : Nat) : Bool := if i < 64 then qa_d x i else if i < 128 then qa_d y (i - 64) else qa_d z (i - 128)
theorem qa_wsh (x y z : Int64) {i : Nat} (hi : i + 8 < 192) :
    qa_w (((x.toUInt64 >>> ((8 : Int32).toInt64.toUInt64 &&& Int64.toUInt64 63)).toInt64) ||| (y <<< ((56 : Int32).toInt64 &&& 63)))
      (((y.toUInt64 >>> ((8 : Int32).toInt64.toUInt64 &&& Int64.toUInt64 63)).toInt64) ||| (z <<< ((56 : Int32).toInt64 &&& 63)))
      ((z.toUInt64 >>> ((8 : Int32).toInt64.toUInt64 &&& Int64.toUInt64 63)).toInt64) i = qa_w x y z (i + 8) := by
  have e : ∀ (u v : Int64) (k : Nat), k < 64 → qa_d (((u.toUInt64 >>> ((8 : Int32).toInt64.toUInt64 &&& Int64.toUInt64 63)).toInt64) ||| (v <<< ((56 : Int32).toInt64 &&& 63))) k = if k < 56 then qa_d u (k + 8) else qa_d v (k - 56) := by
    intro u v k hk
    have h := qa_dshl 56 (by omega) v hk
    have h' : qa_d (v <<< ((56 : Int32).toInt64 &&& 63)) k = (decide (56 ≤ k) && qa_d v (k - 56)) := h
    rw [qa_dor, qa_dush, h', Nat.add_comm 8 k]
    by_cases c : k < 56
    · rw [if_pos c, decide_eq_false (by omega), Bool.false_and, Bool.or_false]
    · rw [if_neg c, decide_eq_true (by omega), Bool.true_and, qa_dbig (by omega), Bool.false_or]
  unfold qa_w
  by_cases c1 : i < 64
  · rw [if_pos c1, e x y i c1]
    by_cases c2 : i < 56
    · rw [if_pos c2, if_pos (by omega)]
    · rw [if_neg c2, if_neg (by omega), if_pos (by omega), show i + 8 - 64 = i - 56 by omega]
  · rw [if_neg c1, if_neg (show ¬ i + 8 < 64 by omega)]
    by_cases c3 : i < 128
    · rw [if_pos c3, e y z (i - 64) (by omega)]
      by_cases c2 : i - 64 < 56
      · rw [if_pos c2, if_pos (by omega), show i + 8 - 64 = i - 64 + 8 by omega]
      · rw [if_neg c2, if_neg (by omega), show i + 8 - 128 = i - 64 - 56 by omega]
    · rw [if_neg c3, if_neg (show ¬ i + 8 < 128 by omega), qa_dush, show 8 + (i - 128) = i + 8 - 128 by omega]
/-- the law's put -/
def qa_put (x : Int64) (p v : Int32) : Int64 := (x &&& (((255 : Int64) <<< ((8 * p).toInt64 &&& 63)) ^^^ (-1))) ||| (v.toInt64 <<< ((8 * p).toInt64 &&& 63))
theorem qa_dput (x : Int64) {c t i : Nat} (hc : c < 8) (ht : t < 256) (hi : i < 64) : qa_d (qa_put x (nI c) (nI t)) i = if 8 * c ≤ i ∧ i < 8 * c + 8 then qa_b (nI t) (i - 8 * c) else qa_d x i := by
  unfold qa_put
  rw [show (8 : Int32) * nI c = nI (8 * c) from pk_mul 8 c, nI_l (show t < 2 ^ 31 by omega)]
  rw [qa_dor, qa_dand, qa_dxor, qa_dm1 i hi, qa_dshl (8 * c) (by omega) _ hi, qa_dshl (8 * c) (by omega) _ hi, qa_d255]
  by_cases h : 8 * c ≤ i
  · by_cases h2 : i < 8 * c + 8
    · rw [if_pos ⟨h, h2⟩, decide_eq_true h, decide_eq_true (show i - 8 * c < 8 by omega), qa_dlN _ (by omega), qa_bnI _ (by omega)]
      simp
    · rw [if_neg (fun z => h2 z.2), decide_eq_true h, decide_eq_false (show ¬ i - 8 * c < 8 by omega), qa_dlN _ (by omega)]
      have hz : t.testBit (i - 8 * c) = false := Nat.testBit_lt_two_pow (Nat.lt_of_lt_of_le ht (Nat.pow_le_pow_right (n := 2) (by decide) (show 8 ≤ i - 8 * c by omega)))
      rw [hz]
      simp
  · rw [if_neg (fun z => h z.1), decide_eq_false h]
    simp
theorem qa_wput0 {x y z : Int64} {c t : Nat} (hc : c < 8) (ht : t < 256) {i : Nat} (hi : i < 192) : qa_w (qa_put x (nI c) (nI t)) y z i = if 8 * c ≤ i ∧ i < 8 * c + 8 then qa_b (nI t) (i - 8 * c) else qa_w x y z i := by
  unfold qa_w
  by_cases c1 : i < 64
  · rw [if_pos c1, if_pos c1, qa_dput x hc ht c1]
  · rw [if_neg c1, if_neg c1, if_neg (show ¬ (8 * c ≤ i ∧ i < 8 * c + 8) by omega)]
theorem qa_wput1 {x y z : Int64} {c t : Nat} (hc : 8 ≤ c) (hc2 : c < 16) (ht : t < 256) {i : Nat} (hi : i < 192) : qa_w x (qa_put y (nI (c % 8)) (nI t)) z i = if 8 * c ≤ i ∧ i < 8 * c + 8 then qa_b (nI t) (i - 8 * c) else qa_w x y z i := by
  unfold qa_w
  by_cases c1 : i < 64
  · rw [if_pos c1, if_pos c1, if_neg (show ¬ (8 * c ≤ i ∧ i < 8 * c + 8) by omega)]
  · rw [if_neg c1, if_neg c1]
    by_cases c3 : i < 128
    · rw [if_pos c3, if_pos c3, qa_dput y (by omega) ht (by omega)]
      by_cases c4 : 8 * c ≤ i ∧ i < 8 * c + 8
      · rw [if_pos c4, if_pos (by omega), show i - 64 - 8 * (c % 8) = i - 8 * c by omega]
      · rw [if_neg c4, if_neg (by omega)]
    · rw [if_neg c3, if_neg c3, if_neg (show ¬ (8 * c ≤ i ∧ i < 8 * c + 8) by omega)]
theorem qa_wput2 {x y z : Int64} {c t : Nat} (hc : 16 ≤ c) (hc2 : c < 24) (ht : t < 256) {i : Nat} (hi : i < 192) : qa_w x y (qa_put z (nI (c % 8)) (nI t)) i = if 8 * c ≤ i ∧ i < 8 * c + 8 then qa_b (nI t) (i - 8 * c) else qa_w x y z i := by
  unfold qa_w
  by_cases c1 : i < 64
  · rw [if_pos c1, if_pos c1, if_neg (show ¬ (8 * c ≤ i ∧ i < 8 * c + 8) by omega)]
  · rw [if_neg c1, if_neg c1]
    by_cases c3 : i < 128
    · rw [if_pos c3, if_pos c3, if_neg (show ¬ (8 * c ≤ i ∧ i < 8 * c + 8) by omega)]
    · rw [if_neg c3, if_neg c3, qa_dput z (by omega) ht (by omega)]
      by_cases c4 : 8 * c ≤ i ∧ i < 8 * c + 8
      · rw [if_pos c4, if_pos (by omega), show i - 128 - 8 * (c % 8) = i - 8 * c by omega]
      · rw [if_neg c4, if_neg (by omega)]
end
section
/-! sorted ranges that never touch, in a window of 24 from p on -/
def qa_Rg (p n : Nat) (lo hi : Nat → Nat) : Prop := (∀ k, k < n → p ≤ lo k ∧ lo k < hi k ∧ hi k ≤ p + 24 ∧ hi k ≤ 240) ∧ (∀ k, k + 1 < n → hi k < lo (k + 1))
def qa_kn (n : Nat) (lo hi : Nat → Nat) (x : Nat) : Prop := ∃ k, k < n ∧ lo k ≤ x ∧ x < hi k
def qa_top (p n : Nat) (hi : Nat → Nat) : Nat := if n = 0 then p else hi (n - 1)
def qa_H (p e n : Nat) (hi : Nat → Nat) : Nat := if e = 0 then qa_top p n hi else e - 1
theorem qa_mono {p n : Nat} {lo hi : Nat → Nat} (h : qa_Rg p n lo hi) : ∀ j i, i < j → j < n → hi i < lo j := by
  intro j
  induction j with
  | zero => intro i hi' _; omega
  | succ j ih =>
    intro i hij hj
    have h2 := h.2 j hj
    by_cases e : i = j
    · rw [e]; exact h2
    · have h3 := ih i (by omega) (by omega)
      have h4 := (h.1 j (by omega)).2.1
      omega
theorem qa_monoH {p n : Nat} {lo hi : Nat → Nat} (h : qa_Rg p n lo hi) {i j : Nat} (hij : i ≤ j) (hj : j < n) : hi i ≤ hi j ∧ lo i ≤ lo j := by
  by_cases e : i = j
  · rw [e]; exact ⟨Nat.le_refl _, Nat.le_refl _⟩
  · have h1 := qa_mono h j i (by omega) hj
    have h2 := (h.1 j hj).2.1
    have h3 := (h.1 i (by omega)).2.1
    omega
theorem qa_lo2 {p n : Nat} {lo hi : Nat → Nat} (h : qa_Rg p n lo hi) : ∀ k, k < n → p + 2 * k ≤ lo k := by
  intro k
  induction k with
  | zero => intro hk; have := (h.1 0 hk).1; omega
  | succ k ih =>
    intro hk
    have h1 := ih (by omega)
    have h2 := (h.1 k (by omega)).2.1
    have h3 := h.2 k hk
    omega
theorem qa_n12 {p n : Nat} {lo hi : Nat → Nat} (h : qa_Rg p n lo hi) : n ≤ 12 := by
  rcases Nat.eq_zero_or_pos n with e | e
  · omega
  · have h1 := qa_lo2 h (n - 1) (by omega)
    have h2 := h.1 (n - 1) (by omega)
    omega
theorem qa_topB {p n : Nat} {lo hi : Nat → Nat} (h : qa_Rg p n lo hi) (hp : p ≤ 240) : p ≤ qa_top p n hi ∧ qa_top p n hi ≤ p + 24 ∧ qa_top p n hi ≤ 240 := by
  unfold qa_top
  by_cases e : n = 0
  · rw [if_pos e]; omega
  · rw [if_neg e]
    have h2 := h.1 (n - 1) (by omega)
    omega
theorem qa_knB {p n : Nat} {lo hi : Nat → Nat} {x : Nat} (h : qa_Rg p n lo hi) (hk : qa_kn n lo hi x) : p ≤ x ∧ x < p + 24 ∧ x < 240 ∧ x < qa_top p n hi := by
  obtain ⟨k, h1, h2, h3⟩ := hk
  have h4 := h.1 k h1
  have h5 := (qa_monoH h (show k ≤ n - 1 by omega) (by omega)).1
  unfold qa_top
  rw [if_neg (by omega)]
  omega
/-- known at the read point: the first range begins there -/
theorem qa_knP {p n : Nat} {lo hi : Nat → Nat} (h : qa_Rg p n lo hi) : qa_kn n lo hi p ↔ (0 < n ∧ lo 0 = p) := by
  constructor
  · intro hk
    obtain ⟨k, h1, h2, h3⟩ := hk
    have h4 := h.1 0 (by omega)
    have h5 := (qa_monoH h (show 0 ≤ k by omega) h1).2
    omega
  · intro hk
    have h4 := h.1 0 hk.1
    exact ⟨0, hk.1, by omega, by omega⟩
/-- a property that, once true, stays true: where it begins -/
theorem qa_split (n a : Nat) (Q : Nat → Prop) (ha : a ≤ n) (hm : ∀ i j, a ≤ i → i ≤ j → j < n → Q i → Q j) : ∃ f, a ≤ f ∧ f ≤ n ∧ (∀ k, a ≤ k → k < f → ¬ Q k) ∧ (∀ k, f ≤ k → k < n → Q k) := by
  obtain ⟨f, hf, hl⟩ := pk_least (fun k => a ≤ k ∧ (n ≤ k ∨ Q k)) ⟨n, ha, Or.inl (Nat.le_refl n)⟩
  have hfn : f ≤ n := by
    rcases Nat.lt_or_ge n f with z | z
    · exact absurd ⟨ha, Or.inl (Nat.le_refl n)⟩ (hl n z)
    · exact z
  refine ⟨f, hf.1, hfn, fun k h1 h2 hq => hl k h2 ⟨h1, Or.inr hq⟩, fun k h1 h2 => ?_⟩
  rcases hf.2 with z | z
  · omega
  · exact hm f k hf.1 h1 h2 z
/-! the merge: ranges f .. l-1 and the new one become one -/
def qa_NL (f fr : Nat) (lo : Nat → Nat) (m : Nat) : Nat := if m = f then fr else min fr (lo f)
def qa_NH (f to : Nat) (hi : Nat → Nat) (m : Nat) : Nat := if m = f then to else max to (hi (m - 1))
def qa_mL (f l fr : Nat) (lo : Nat → Nat) (k : Nat) : Nat := if k < f then lo k else if k = f then qa_NL f fr lo l else lo (k + (l - f) - 1)
def qa_mH (f l to : Nat) (hi : Nat → Nat) (k : Nat) : Nat := if k < f then hi k else if k = f then qa_NH f to hi l else hi (k + (l - f) - 1)
theorem qa_mL1 {f l fr k : Nat} {lo : Nat → Nat} (h : k < f) : qa_mL f l fr lo k = lo k := if_pos h
theorem qa_mL2 {f l fr : Nat} {lo : Nat → Nat} : qa_mL f l fr lo f = qa_NL f fr lo l := by unfold qa_mL; rw [if_neg (by omega), if_pos rfl]
theorem qa_mL3 {f l fr k : Nat} {lo : Nat → Nat} (h : f < k) : qa_mL f l fr lo k = lo (k + (l - f) - 1) := by unfold qa_mL; rw [if_neg (by omega), if_neg (by omega)]
theorem qa_mH1 {f l to k : Nat} {hi : Nat → Nat} (h : k < f) : qa_mH f l to hi k = hi k := if_pos h
theorem qa_mH2 {f l to : Nat} {hi : Nat → Nat} : qa_mH f l to hi f = qa_NH f to hi l := by unfold qa_mH; rw [if_neg (by omega), if_pos rfl]
theorem qa_mH3 {f l to k : Nat} {hi : Nat → Nat} (h : f < k) : qa_mH f l to hi k = hi (k + (l - f) - 1) := by unfold qa_mH; rw [if_neg (by omega), if_neg (by omega)]
/-- what the merged range is, seen from outside -/
theorem qa_NLH {p n fr to f l : Nat} {lo hi : Nat → Nat} (hR : qa_Rg p n lo hi) (h1 : p ≤ fr) (h2 : fr < to) (h3 : to ≤ p + 24) (h4 : to ≤ 240) (hf : f ≤ l) (hl : l ≤ n)
    (c2 : ∀ k, f ≤ k → k < n → fr ≤ hi k) (c3 : ∀ k, f ≤ k → k < l → lo k ≤ to) :
    (p ≤ qa_NL f fr lo l ∧ qa_NL f fr lo l ≤ fr ∧ to ≤ qa_NH f to hi l ∧ qa_NH f to hi l ≤ p + 24 ∧ qa_NH f to hi l ≤ 240) ∧ (f < l → qa_NL f fr lo l ≤ lo f ∧ hi (l - 1) ≤ qa_NH f to hi l)
    ∧ (∀ x, qa_NL f fr lo l ≤ x → x < fr → f < l ∧ lo f ≤ x ∧ x < hi f) ∧ (∀ x, to ≤ x → x < qa_NH f to hi l → f < l ∧ lo (l - 1) ≤ x ∧ x < hi (l - 1)) := by
  unfold qa_NL qa_NH
  by_cases e : l = f
  · rw [if_pos e, if_pos e]
    exact ⟨⟨h1, Nat.le_refl _, Nat.le_refl _, h3, h4⟩, fun z => absurd z (by omega), fun x a b => absurd a (by omega), fun x a b => absurd a (by omega)⟩
  · rw [if_neg e, if_neg e]
    have g1 := hR.1 f (by omega)
    have g2 := hR.1 (l - 1) (by omega)
    have g3 := c2 f (by omega) (by omega)
    have g4 := c3 (l - 1) (by omega) (by omega)
    refine ⟨⟨?_, ?_, ?_, ?_, ?_⟩, fun _ => ⟨?_, ?_⟩, fun x a b => ⟨?_, ?_, ?_⟩, fun x a b => ⟨?_, ?_, ?_⟩⟩ <;> omega
theorem qa_merge {p n fr to f l : Nat} {lo hi : Nat → Nat} (hR : qa_Rg p n lo hi) (h1 : p ≤ fr) (h2 : fr < to) (h3 : to ≤ p + 24) (h4 : to ≤ 240) (hf : f ≤ l) (hl : l ≤ n)
    (c1 : ∀ k, k < f → hi k < fr) (c2 : ∀ k, f ≤ k → k < n → fr ≤ hi k) (c3 : ∀ k, f ≤ k → k < l → lo k ≤ to) (c4 : ∀ k, l ≤ k → k < n → to < lo k) :
    qa_Rg p (n + 1 - (l - f)) (qa_mL f l fr lo) (qa_mH f l to hi) := by
  obtain ⟨⟨b1, b2, b3, b4, b5⟩, b6, b7, b8⟩ := qa_NLH hR h1 h2 h3 h4 hf hl c2 c3
  refine ⟨fun k hk => ?_, fun k hk => ?_⟩
  · rcases Nat.lt_trichotomy k f with z | z | z
    · rw [qa_mL1 z, qa_mH1 z]
      exact hR.1 k (by omega)
    · rw [z, qa_mL2, qa_mH2]
      omega
    · rw [qa_mL3 z, qa_mH3 z]
      exact hR.1 _ (by omega)
  · rcases Nat.lt_trichotomy k f with z | z | z
    · rw [qa_mH1 z]
      have g1 := c1 k z
      by_cases z2 : k + 1 < f
      · rw [qa_mL1 z2]
        exact hR.2 k (by omega)
      · have z3 : k + 1 = f := by omega
        rw [z3, qa_mL2]
        unfold qa_NL
        by_cases e : l = f
        · rw [if_pos e]; exact g1
        · rw [if_neg e]
          have g2 := hR.2 k (by omega)
          rw [z3] at g2
          omega
    · rw [z, qa_mH2, qa_mL3 (by omega)]
      have g2 := c4 l (by omega) (by omega)
      rw [show f + 1 + (l - f) - 1 = l by omega]
      unfold qa_NH
      by_cases e : l = f
      · rw [if_pos e]; exact g2
      · rw [if_neg e]
        have g3 := qa_mono hR l (l - 1) (by omega) (by omega)
        omega
    · rw [qa_mH3 z, qa_mL3 (by omega)]
      have g2 := hR.2 (k + (l - f) - 1) (by omega)
      rw [show k + 1 + (l - f) - 1 = k + (l - f) - 1 + 1 by omega]
      exact g2
theorem qa_mergeK {p n fr to f l : Nat} {lo hi : Nat → Nat} (hR : qa_Rg p n lo hi) (h1 : p ≤ fr) (h2 : fr < to) (h3 : to ≤ p + 24) (h4 : to ≤ 240) (hf : f ≤ l) (hl : l ≤ n)
    (c2 : ∀ k, f ≤ k → k < n → fr ≤ hi k) (c3 : ∀ k, f ≤ k → k < l → lo k ≤ to) (x : Nat) :
    qa_kn (n + 1 - (l - f)) (qa_mL f l fr lo) (qa_mH f l to hi) x ↔ (qa_kn n lo hi x ∨ (fr ≤ x ∧ x < to)) := by
  obtain ⟨⟨b1, b2, b3, b4, b5⟩, b6, b7, b8⟩ := qa_NLH hR h1 h2 h3 h4 hf hl c2 c3
  constructor
  · intro hk
    obtain ⟨k, g1, g2, g3⟩ := hk
    rcases Nat.lt_trichotomy k f with z | z | z
    · rw [qa_mL1 z] at g2
      rw [qa_mH1 z] at g3
      exact Or.inl ⟨k, by omega, g2, g3⟩
    · rw [z, qa_mL2] at g2
      rw [z, qa_mH2] at g3
      rcases Nat.lt_or_ge x fr with y | y
      · obtain ⟨d1, d2, d3⟩ := b7 x g2 y
        exact Or.inl ⟨f, by omega, d2, d3⟩
      · rcases Nat.lt_or_ge x to with y2 | y2
        · exact Or.inr ⟨y, y2⟩
        · obtain ⟨d1, d2, d3⟩ := b8 x y2 g3
          exact Or.inl ⟨l - 1, by omega, d2, d3⟩
    · rw [qa_mL3 z] at g2
      rw [qa_mH3 z] at g3
      exact Or.inl ⟨k + (l - f) - 1, by omega, g2, g3⟩
  · intro hk
    rcases hk with ⟨k, g1, g2, g3⟩ | ⟨g1, g2⟩
    · rcases Nat.lt_or_ge k f with z | z
      · exact ⟨k, by omega, by rw [qa_mL1 z]; exact g2, by rw [qa_mH1 z]; exact g3⟩
      · rcases Nat.lt_or_ge k l with y | y
        · obtain ⟨d1, d2⟩ := b6 (by omega)
          have e1 := (qa_monoH hR z g1).2
          have e2 := (qa_monoH hR (show k ≤ l - 1 by omega) (by omega)).1
          exact ⟨f, by omega, by rw [qa_mL2]; omega, by rw [qa_mH2]; omega⟩
        · refine ⟨k + 1 - (l - f), by omega, ?_, ?_⟩
          · rw [qa_mL3 (by omega), show k + 1 - (l - f) + (l - f) - 1 = k by omega]; exact g2
          · rw [qa_mH3 (by omega), show k + 1 - (l - f) + (l - f) - 1 = k by omega]; exact g3
    · exact ⟨f, by omega, by rw [qa_mL2]; omega, by rw [qa_mH2]; omega⟩
theorem qa_mergeT {p n fr to f l : Nat} {lo hi : Nat → Nat} (hR : qa_Rg p n lo hi) (h1 : p ≤ fr) (h2 : fr < to) (hf : f ≤ l) (hl : l ≤ n)
    (c1 : ∀ k, k < f → hi k < fr) (c4 : ∀ k, l ≤ k → k < n → to < lo k) :
    qa_top p (n + 1 - (l - f)) (qa_mH f l to hi) = max (qa_top p n hi) to := by
  unfold qa_top
  rw [if_neg (show ¬ n + 1 - (l - f) = 0 by omega)]
  rcases Nat.lt_or_ge l n with z | z
  · rw [qa_mH3 (by omega), if_neg (by omega), show n + 1 - (l - f) - 1 + (l - f) - 1 = n - 1 by omega]
    have g1 := c4 (n - 1) (by omega) (by omega)
    have g2 := (hR.1 (n - 1) (by omega)).2.1
    omega
  · have e : l = n := by omega
    rw [show n + 1 - (l - f) - 1 = f by omega, qa_mH2]
    unfold qa_NH
    by_cases e2 : l = f
    · rw [if_pos e2]
      by_cases e3 : n = 0
      · rw [if_pos e3]; omega
      · rw [if_neg e3]
        have g1 := c1 (n - 1) (by omega)
        omega
    · rw [if_neg e2, if_neg (by omega), e]
      omega
/-- taking one byte at the read point: the picture behind it -/
theorem qa_take1 {p n : Nat} {lo hi : Nat → Nat} (hR : qa_Rg p n lo hi) (hn : 0 < n) (hl : lo 0 = p) (h : ¬ p + 1 = hi 0) :
    qa_Rg (p + 1) n (fun k => if k = 0 then p + 1 else lo k) hi ∧ (∀ x, qa_kn n (fun k => if k = 0 then p + 1 else lo k) hi x ↔ (qa_kn n lo hi x ∧ p < x)) := by
  have g0 := hR.1 0 hn
  refine ⟨⟨fun k hk => ?_, fun k hk => ?_⟩, fun x => ?_⟩
  · show p + 1 ≤ (if k = 0 then p + 1 else lo k) ∧ (if k = 0 then p + 1 else lo k) < hi k ∧ _
    have g1 := hR.1 k hk
    by_cases e : k = 0
    · subst e
      rw [if_pos rfl]
      omega
    · rw [if_neg e]
      have g2 := qa_mono hR k 0 (by omega) hk
      omega
  · show hi k < (if k + 1 = 0 then p + 1 else lo (k + 1))
    rw [if_neg (by omega)]
    exact hR.2 k hk
  · constructor
    · rintro ⟨k, h1, h2, h3⟩
      have h2' : (if k = 0 then p + 1 else lo k) ≤ x := h2
      by_cases e : k = 0
      · subst e
        rw [if_pos rfl] at h2'
        exact ⟨⟨0, h1, by omega, h3⟩, by omega⟩
      · rw [if_neg e] at h2'
        have g2 := qa_mono hR k 0 (by omega) h1
        exact ⟨⟨k, h1, h2', h3⟩, by omega⟩
    · rintro ⟨⟨k, h1, h2, h3⟩, h4⟩
      refine ⟨k, h1, ?_, h3⟩
      show (if k = 0 then p + 1 else lo k) ≤ x
      by_cases e : k = 0
      · rw [if_pos e]; omega
      · rw [if_neg e]; exact h2
theorem qa_take2 {p n : Nat} {lo hi : Nat → Nat} (hR : qa_Rg p n lo hi) (hn : 0 < n) (hl : lo 0 = p) (h : p + 1 = hi 0) :
    qa_Rg (p + 1) (n - 1) (fun k => lo (k + 1)) (fun k => hi (k + 1)) ∧ (∀ x, qa_kn (n - 1) (fun k => lo (k + 1)) (fun k => hi (k + 1)) x ↔ (qa_kn n lo hi x ∧ p < x)) := by
  have g0 := hR.1 0 hn
  refine ⟨⟨fun k hk => ?_, fun k hk => ?_⟩, fun x => ?_⟩
  · show p + 1 ≤ lo (k + 1) ∧ lo (k + 1) < hi (k + 1) ∧ hi (k + 1) ≤ p + 1 + 24 ∧ hi (k + 1) ≤ 240
    have g1 := hR.1 (k + 1) (by omega)
    have g2 := qa_mono hR (k + 1) 0 (by omega) (by omega)
    omega
  · exact hR.2 (k + 1) (by omega)
  · constructor
    · rintro ⟨k, h1, h2, h3⟩
      have h2' : lo (k + 1) ≤ x := h2
      have g2 := qa_mono hR (k + 1) 0 (by omega) (by omega)
      exact ⟨⟨k + 1, by omega, h2', h3⟩, by omega⟩
    · rintro ⟨⟨k, h1, h2, h3⟩, h4⟩
      have e : k ≠ 0 := by
        intro e
        subst e
        omega
      refine ⟨k - 1, by omega, ?_, ?_⟩
      · show lo (k - 1 + 1) ≤ x
        rw [show k - 1 + 1 = k by omega]; exact h2
      · show x < hi (k - 1 + 1)
        rw [show k - 1 + 1 = k by omega]; exact h3
theorem qa_takeT1 {p n : Nat} {hi : Nat → Nat} (hn : 0 < n) : qa_top (p + 1) n hi = qa_top p n hi := by
  unfold qa_top
  rw [if_neg (by omega), if_neg (by omega)]
theorem qa_takeT2 {p n : Nat} {hi : Nat → Nat} (hn : 0 < n) (h : p + 1 = hi 0) : qa_top (p + 1) (n - 1) (fun k => hi (k + 1)) = qa_top p n hi := by
  unfold qa_top
  rw [if_neg (show ¬ n = 0 by omega)]
  by_cases e : n = 1
  · subst e
    exact h
  · rw [if_neg (by omega)]
    show hi (n - 1 - 1 + 1) = hi (n - 1)
    rw [show n - 1 - 1 + 1 = n - 1 by omega]
end
section
/-! the picture of one stream, and the methods that only read -/
def qa_rw (s : Nat) (a4 a5 a6 : Nat → Int32) (n : Nat) (lo hi : Nat → Nat) : Prop := a4 s = nI n ∧ n ≤ 12 ∧ ∀ k, k < n → a5 (13 * s + k) = nI (lo k) ∧ a6 (13 * s + k) = nI (hi k) ∧ lo k ≤ 240 ∧ hi k ≤ 240
def qa_E (p t e : Nat) (x : Int32) : Prop := (e = 0 ∧ x = -1) ∨ (0 < e ∧ x = nI (e - 1) ∧ t ≤ e - 1 ∧ e - 1 ≤ p + 24 ∧ e - 1 ≤ 240)
def qa_str (s : Nat) (a2 a3 a4 a5 a6 : Nat → Int32) (p e n : Nat) (lo hi : Nat → Nat) : Prop := a2 s = nI p ∧ p ≤ 240 ∧ qa_E p (qa_top p n hi) e (a3 s) ∧ qa_rw s a4 a5 a6 n lo hi ∧ qa_Rg p n lo hi
theorem qa_ix (s k : Nat) : (13 : Int32) * nI s + nI k = nI (13 * s + k) := by
  rw [show (13 : Int32) * nI s = nI (13 * s) from pk_mul 13 s, nI_add]
theorem qa_ixm (s : Nat) {n : Nat} (h : 0 < n) : (13 : Int32) * nI s + nI n - 1 = nI (13 * s + (n - 1)) := by
  rw [qa_ix, show 13 * s + n = 13 * s + (n - 1) + 1 by omega, nI_pred]
theorem qa_rd {f : Nat → Int32} {x v : Int32} (k : Nat) (h : f k = v) (hx : x = nI k := by rfl) (hk : k < 2 ^ 31 := by omega) : f x.toNatClampNeg = v := by
  subst hx
  rw [nI_clamp hk]
  exact h
theorem qa_HB {s p e n : Nat} {a2 a3 a4 a5 a6 : Nat → Int32} {lo hi : Nat → Nat} (h : qa_str s a2 a3 a4 a5 a6 p e n lo hi) : p ≤ qa_H p e n hi ∧ qa_H p e n hi ≤ p + 24 ∧ qa_H p e n hi ≤ 240 ∧ qa_top p n hi ≤ qa_H p e n hi := by
  obtain ⟨h2, hp, he, hw, hR⟩ := h
  have ht := qa_topB hR hp
  unfold qa_H
  rcases he with ⟨e0, ex⟩ | ⟨e0, ex, et, e1, e2⟩
  · rw [if_pos e0]; omega
  · rw [if_neg (by omega)]; omega
theorem qa_isS {post : Int32 → Prop} {s : Nat} (hs : s < 4) (h : post 1) : wpX_isStream post () (nI s) :=
  pk_lt s 0 (fun z => absurd z (by omega)) (fun _ => pk_lt 3 s (fun z => absurd z (by omega)) (fun _ => h))
theorem qa_known {post : Int32 → Prop} {s n x : Nat} {a1 a2 a3 a4 a5 a6 : Nat → Int32} {lo hi : Nat → Nat} (hs : s < 4) (h : qa_rw s a4 a5 a6 n lo hi) (hx : x < 2 ^ 31) (H1 : qa_kn n lo hi x → post 1) (H0 : ¬ qa_kn n lo hi x → post 0) :
    wpX_isKnown post (a1, a2, a3, a4, a5, a6) (nI s) (nI x) := by
  obtain ⟨h4, hn, hr⟩ := h
  have c4 : (13 : Int32) * nI s + a4 (nI s).toNatClampNeg = nI (13 * s + n) := by
    rw [nI_clamp (by omega), h4, qa_ix]
  unfold wpX_isKnown
  dsimp only
  refine nm_r (pk_mul 13 s) ?_
  refine pk_loop (σ := Unit) (fun m i _ => wX_isKnown_5 post (nI s) (nI x) a1 a2 a3 a4 a5 a6 m (nI (13 * s + i))) (fun i _ => ∀ k, k < i → ¬ (lo k ≤ x ∧ x < hi k)) n 0 () (Nat.zero_le _) (fun k hk => absurd hk (by omega)) (fun m _ hI => ?_) (fun m i _ hin hI hw => ?_)
  · exact ⟨pk_in s 4 hs, pk_le (13 * s + n) (13 * s + n) (fun _ => H0 (fun ⟨k, k1, k2, k3⟩ => hI k k1 ⟨k2, k3⟩)) (fun z => absurd z (by omega)) c4⟩
  · obtain ⟨e5, e6, b5, b6⟩ := hr i hin
    refine ⟨pk_in s 4 hs, pk_le (13 * s + n) (13 * s + i) (fun z => absurd z (by omega)) (fun _ => ⟨pk_in (13 * s + i) 52 (by omega), ?_⟩) c4⟩
    refine pk_lt x (lo i) (fun z => nm_r (nI_1 _) (hw () (lt_s hI (fun w => absurd w.1 (by omega))))) (fun z => ⟨pk_in (13 * s + i) 52 (by omega), ?_⟩) rfl (qa_rd (13 * s + i) e5)
    exact pk_le (hi i) x (fun z' => nm_r (nI_1 _) (hw () (lt_s hI (fun w => absurd w.2 (by omega))))) (fun z' => H1 ⟨i, hin, z, z'⟩) (qa_rd (13 * s + i) e6) rfl
/-- how many bytes can be read -/
def qa_r (p n : Nat) (lo hi : Nat → Nat) : Nat := if 0 < n ∧ lo 0 = p then hi 0 - p else 0
theorem qa_readable {post : Int32 → Prop} {s p e n : Nat} {a1 a2 a3 a4 a5 a6 : Nat → Int32} {lo hi : Nat → Nat} (hs : s < 4) (h : qa_str s a2 a3 a4 a5 a6 p e n lo hi) (H : post (nI (qa_r p n lo hi))) :
    wpX_readable post (a1, a2, a3, a4, a5, a6) (nI s) := by
  obtain ⟨h2, hp, he, hw, hR⟩ := h
  unfold wpX_readable
  dsimp only
  refine qa_isS hs (br_f (by decide) ⟨pk_in s 4 hs, nm_r (qa_rd s h2) (qa_known hs hw (by omega) (fun hk => br_f (by decide) ⟨pk_in (13 * s) 52 (by omega) (pk_mul 13 s), ?_⟩) (fun hk => br_t rfl ?_))⟩)
  · have hk' := (qa_knP hR).mp hk
    obtain ⟨g5, g6, g7, g8⟩ := hw.2.2 0 hk'.1
    have g2 := hR.1 0 hk'.1
    unfold qa_r at H
    rw [if_pos hk'] at H
    have e6 : a6 ((13 : Int32) * nI s).toNatClampNeg = nI (hi 0) := qa_rd (13 * s) g6 (pk_mul 13 s)
    show post (a6 ((13 : Int32) * nI s).toNatClampNeg - nI p)
    rw [e6, pk_sub (by omega)]
    exact H
  · unfold qa_r at H
    rw [if_neg (fun z => hk ((qa_knP hR).mpr z))] at H
    exact H
theorem qa_highest {post : Int32 → Prop} {s p e n : Nat} {a1 a2 a3 a4 a5 a6 : Nat → Int32} {lo hi : Nat → Nat} (hs : s < 4) (h : qa_str s a2 a3 a4 a5 a6 p e n lo hi) (H : post (nI (qa_H p e n hi))) :
    wpX_highest post (a1, a2, a3, a4, a5, a6) (nI s) := by
  obtain ⟨h2, hp, he, hw, hR⟩ := h
  have hn := hw.2.1
  have hc : (nI s).toNatClampNeg = s := nI_clamp (by omega)
  unfold wpX_highest
  dsimp only
  refine qa_isS hs (br_f (by decide) ⟨pk_in s 4 hs, ?_⟩)
  unfold qa_H qa_top at H
  rcases he with ⟨e0, ex⟩ | ⟨e0, ex, et, e1, e2⟩
  · rw [if_pos e0] at H
    refine br_t (by rw [hc, ex]; decide) ⟨pk_in s 4 hs, nm_r (qa_rd s hw.1) ?_⟩
    refine pk_le n 0 (fun z => ⟨pk_in s 4 hs, ?_⟩) (fun z => ⟨pk_in (13 * s + (n - 1)) 52 (by omega) (qa_ixm s z), ?_⟩)
    · rw [if_pos (by omega)] at H
      rw [hc, h2]
      exact H
    · rw [if_neg (by omega)] at H
      obtain ⟨g5, g6, g7, g8⟩ := hw.2.2 (n - 1) (by omega)
      have e6 : a6 ((13 : Int32) * nI s + nI n - 1).toNatClampNeg = nI (hi (n - 1)) := qa_rd (13 * s + (n - 1)) g6 (qa_ixm s z)
      show post (a6 ((13 : Int32) * nI s + nI n - 1).toNatClampNeg)
      rw [e6]
      exact H
  · rw [if_neg (by omega)] at H
    refine br_f (by rw [hc, ex]; exact nI_pos (by omega)) ⟨pk_in s 4 hs, ?_⟩
    rw [hc, ex]
    exact H
theorem qa_last {post : Int32 → Prop} {s p e n : Nat} {a1 a2 a3 a4 a5 a6 : Nat → Int32} {lo hi : Nat → Nat} (hs : s < 4) (h : qa_str s a2 a3 a4 a5 a6 p e n lo hi) (H : post (nI (qa_top p n hi))) :
    wpX_lastKnown post (a1, a2, a3, a4, a5, a6) (nI s) := by
  obtain ⟨h2, hp, he, hw, hR⟩ := h
  have hn := hw.2.1
  have hc : (nI s).toNatClampNeg = s := nI_clamp (by omega)
  unfold wpX_lastKnown
  dsimp only
  unfold qa_top at H
  refine ⟨pk_in s 4 hs, nm_r (qa_rd s hw.1) ?_⟩
  refine pk_le n 0 (fun z => ⟨pk_in s 4 hs, ?_⟩) (fun z => ⟨pk_in (13 * s + (n - 1)) 52 (by omega) (qa_ixm s z), ?_⟩)
  · rw [if_pos (by omega)] at H
    rw [hc, h2]
    exact H
  · rw [if_neg (by omega)] at H
    obtain ⟨g5, g6, g7, g8⟩ := hw.2.2 (n - 1) (by omega)
    have e6 : a6 ((13 : Int32) * nI s + nI n - 1).toNatClampNeg = nI (hi (n - 1)) := qa_rd (13 * s + (n - 1)) g6 (qa_ixm s z)
    show post (a6 ((13 : Int32) * nI s + nI n - 1).toNatClampNeg)
    rw [e6]
    exact H
theorem qa_gaps34 {post : Int32 → Prop} {s p e n z : Nat} {a1 a2 a3 a4 a5 a6 : Nat → Int32} {lo hi : Nat → Nat} (hs : s < 4) (h : qa_str s a2 a3 a4 a5 a6 p e n lo hi) (hz : z ≤ n)
    (H : post (nI (n - z + if qa_top p n hi < qa_H p e n hi then 1 else 0))) : wX_gaps_34 post (nI s) (nI z) (nI n) a1 a2 a3 a4 a5 a6 := by
  have hb := qa_HB h
  unfold wX_gaps_34
  refine nm_r (pk_sub hz) (qa_last hs h (qa_highest hs h ?_))
  refine pk_le (qa_H p e n hi) (qa_top p n hi) (fun w => ?_) (fun w => ?_)
  · rw [if_neg (by omega)] at H
    exact ek_v (P := post) (nI_add (n - z) 0) H
  · rw [if_pos w] at H
    exact ek_v (P := post) (nI_add (n - z) 1) H
theorem qa_gapsL {s p e n : Nat} {a2 a3 a4 a5 a6 : Nat → Int32} {lo hi : Nat → Nat} (h : qa_str s a2 a3 a4 a5 a6 p e n lo hi) :
    p + qa_r p n lo hi ≤ qa_H p e n hi ∧ (qa_kn n lo hi p → 1 ≤ n ∧ ((n - 1 + if qa_top p n hi < qa_H p e n hi then 1 else 0) = 0 ↔ p + qa_r p n lo hi = qa_H p e n hi))
    ∧ (¬ qa_kn n lo hi p → ((n - 0 + if qa_top p n hi < qa_H p e n hi then 1 else 0) = 0 ↔ p + qa_r p n lo hi = qa_H p e n hi)) := by
  have hb := qa_HB h
  obtain ⟨h2, hp, he, hw, hR⟩ := h
  generalize qa_H p e n hi = T at *
  have hkp := qa_knP hR
  by_cases hk : 0 < n ∧ lo 0 = p
  · have g0 := hR.1 0 hk.1
    have hr : qa_r p n lo hi = hi 0 - p := if_pos hk
    have ht : qa_top p n hi = hi (n - 1) := if_neg (by omega)
    have hm := (qa_monoH hR (show 0 ≤ n - 1 by omega) (by omega)).1
    have hst : 1 < n → hi 0 < hi (n - 1) := fun z => by
      have g1 := qa_mono hR (n - 1) 0 (by omega) (by omega)
      have g2 := hR.1 (n - 1) (by omega)
      omega
    rw [ht] at hb ⊢
    rw [hr]
    refine ⟨by omega, fun _ => ⟨hk.1, ?_⟩, fun z => absurd (hkp.mpr hk) z⟩
    rcases Nat.lt_or_ge 1 n with z | z
    · have g1 := hst z
      by_cases c : hi (n - 1) < T
      · rw [if_pos c]; omega
      · rw [if_neg c]; omega
    · have e1 : n = 1 := by omega
      subst e1
      by_cases c : hi (1 - 1) < T
      · rw [if_pos c]
        have c' : hi 0 < T := c
        omega
      · rw [if_neg c]
        have c' : ¬ hi 0 < T := c
        have d : hi (1 - 1) ≤ T := hb.2.2.2
        have d' : hi 0 ≤ T := d
        omega
  · have hr : qa_r p n lo hi = 0 := if_neg hk
    rw [hr]
    refine ⟨by omega, fun z => absurd (hkp.mp z) hk, fun _ => ?_⟩
    rcases Nat.eq_zero_or_pos n with z | z
    · have ht : qa_top p n hi = p := if_pos z
      rw [ht] at hb ⊢
      by_cases c : p < T
      · rw [if_pos c]; omega
      · rw [if_neg c]; omega
    · have ht : qa_top p n hi = hi (n - 1) := if_neg (by omega)
      rw [ht] at hb ⊢
      have g2 := hR.1 (n - 1) (by omega)
      by_cases c : hi (n - 1) < T
      · rw [if_pos c]; omega
      · rw [if_neg c]; omega
theorem qa_gaps {post : Int32 → Prop} {s p e n : Nat} {a1 a2 a3 a4 a5 a6 : Nat → Int32} {lo hi : Nat → Nat} (hs : s < 4) (h : qa_str s a2 a3 a4 a5 a6 p e n lo hi)
    (H : ∀ g : Nat, g ≤ 13 → (g = 0 ↔ p + qa_r p n lo hi = qa_H p e n hi) → post (nI g)) : wpX_gaps post (a1, a2, a3, a4, a5, a6) (nI s) := by
  have hg := qa_gapsL h
  have h' := h
  obtain ⟨h2, hp, he, hw, hR⟩ := h
  have hn := hw.2.1
  have hc : (nI s).toNatClampNeg = s := nI_clamp (by omega)
  have hi1 : (if qa_top p n hi < qa_H p e n hi then 1 else 0) ≤ 1 := by
    by_cases c : qa_top p n hi < qa_H p e n hi
    · rw [if_pos c]; omega
    · rw [if_neg c]; omega
  unfold wpX_gaps
  dsimp only
  rw [hc, h2, hw.1]
  refine qa_isS hs (br_f (by decide) ⟨pk_in s 4 hs, pk_in s 4 hs, qa_known hs hw (by omega) (fun hk => br_f (by decide) ?_) (fun hk => br_t rfl ?_)⟩)
  · obtain ⟨g1, g2⟩ := hg.2.1 hk
    exact qa_gaps34 (z := 1) hs h' g1 (H _ (by omega) g2)
  · exact qa_gaps34 (z := 0) hs h' (by omega) (H _ (by omega) (hg.2.2 hk))
theorem qa_limit {post : Int32 → Prop} {s p e n : Nat} {a1 a2 a3 a4 a5 a6 : Nat → Int32} {lo hi : Nat → Nat} (hs : s < 4) (h : qa_str s a2 a3 a4 a5 a6 p e n lo hi) (H : post (nI (min (p + 24) 240))) :
    wpX_limitOf post (a1, a2, a3, a4, a5, a6) (nI s) := by
  obtain ⟨h2, hp, he, hw, hR⟩ := h
  have hc : (nI s).toNatClampNeg = s := nI_clamp (by omega)
  have e2 : a2 (nI s).toNatClampNeg + 24 = nI (p + 24) := by
    rw [hc, h2]
    exact nI_add p 24
  unfold wpX_limitOf
  dsimp only
  refine ⟨pk_in s 4 hs, nm_r e2 (pk_le (p + 24) 240 (fun z => ?_) (fun z => ?_))⟩
  · rw [show min (p + 24) 240 = p + 24 by omega] at H
    exact H
  · rw [show min (p + 24) 240 = 240 by omega] at H
    exact H
/-! all four streams -/
def qa_sm (f : Nat → Nat) : Nat → Nat
  | 0 => 0
  | n + 1 => qa_sm f n + f n
theorem qa_sm4 (f : Nat → Nat) : qa_sm f 4 = 0 + f 0 + f 1 + f 2 + f 3 := rfl
theorem qa_smV {f g : Nat → Nat} {s : Nat} (hs : s < 4) (h : ∀ j, j < 4 → j ≠ s → g j = f j) : qa_sm g 4 + f s = qa_sm f 4 + g s := by
  rw [qa_sm4, qa_sm4]
  have hc : s = 0 ∨ s = 1 ∨ s = 2 ∨ s = 3 := by omega
  rcases hc with e | e | e | e
  · subst e
    have h1 := h 1 (by omega) (by omega)
    have h2 := h 2 (by omega) (by omega)
    have h3 := h 3 (by omega) (by omega)
    omega
  · subst e
    have h1 := h 0 (by omega) (by omega)
    have h2 := h 2 (by omega) (by omega)
    have h3 := h 3 (by omega) (by omega)
    omega
  · subst e
    have h1 := h 0 (by omega) (by omega)
    have h2 := h 1 (by omega) (by omega)
    have h3 := h 3 (by omega) (by omega)
    omega
  · subst e
    have h1 := h 0 (by omega) (by omega)
    have h2 := h 1 (by omega) (by omega)
    have h3 := h 2 (by omega) (by omega)
    omega
theorem qa_smB {P T : Nat → Nat} (h : ∀ s, s < 4 → P s ≤ T s ∧ T s ≤ 240) (hs : qa_sm T 4 ≤ qa_sm P 4 + 56) {i : Nat} (hi : i ≤ 4) : qa_sm T i ≤ 56 + qa_sm P i ∧ qa_sm P i ≤ qa_sm T i ∧ qa_sm T i ≤ 960 := by
  rw [qa_sm4, qa_sm4] at hs
  have h0 := h 0 (by omega)
  have h1 := h 1 (by omega)
  have h2 := h 2 (by omega)
  have h3 := h 3 (by omega)
  have hc : i = 0 ∨ i = 1 ∨ i = 2 ∨ i = 3 ∨ i = 4 := by omega
  rcases hc with e | e | e | e | e
  · subst e
    show 0 ≤ 56 + 0 ∧ 0 ≤ 0 ∧ 0 ≤ 960
    omega
  · subst e
    show 0 + T 0 ≤ 56 + (0 + P 0) ∧ 0 + P 0 ≤ 0 + T 0 ∧ 0 + T 0 ≤ 960
    omega
  · subst e
    show 0 + T 0 + T 1 ≤ 56 + (0 + P 0 + P 1) ∧ 0 + P 0 + P 1 ≤ 0 + T 0 + T 1 ∧ 0 + T 0 + T 1 ≤ 960
    omega
  · subst e
    show 0 + T 0 + T 1 + T 2 ≤ 56 + (0 + P 0 + P 1 + P 2) ∧ 0 + P 0 + P 1 + P 2 ≤ 0 + T 0 + T 1 + T 2 ∧ 0 + T 0 + T 1 + T 2 ≤ 960
    omega
  · subst e
    show 0 + T 0 + T 1 + T 2 + T 3 ≤ 56 + (0 + P 0 + P 1 + P 2 + P 3) ∧ 0 + P 0 + P 1 + P 2 + P 3 ≤ 0 + T 0 + T 1 + T 2 + T 3 ∧ 0 + T 0 + T 1 + T 2 + T 3 ≤ 960
    omega
/-- the heights of the four streams -/
def qa_T (P E N : Nat → Nat) (Hi : Nat → Nat → Nat) : Nat → Nat := fun s => qa_H (P s) (E s) (N s) (Hi s)
def qa_all (a2 a3 a4 a5 a6 : Nat → Int32) (P E N : Nat → Nat) (Lo Hi : Nat → Nat → Nat) : Prop :=
  (∀ s, s < 4 → qa_str s a2 a3 a4 a5 a6 (P s) (E s) (N s) (Lo s) (Hi s)) ∧ qa_sm (qa_T P E N Hi) 4 ≤ qa_sm P 4 + 56
theorem qa_allB {a2 a3 a4 a5 a6 : Nat → Int32} {P E N : Nat → Nat} {Lo Hi : Nat → Nat → Nat} (h : qa_all a2 a3 a4 a5 a6 P E N Lo Hi) : ∀ s, s < 4 → P s ≤ qa_T P E N Hi s ∧ qa_T P E N Hi s ≤ 240 := by
  intro s hs
  have hb := qa_HB (h.1 s hs)
  unfold qa_T
  omega
theorem qa_cps {c p h : Nat} (h1 : h ≤ c + p) : nI c + (nI p - nI h) = nI (c + p - h) := by
  rw [← pk_sub h1, ← nI_add]
  grind
theorem qa_credit {post : Int32 → Prop} {a1 a2 a3 a4 a5 a6 : Nat → Int32} {P E N : Nat → Nat} {Lo Hi : Nat → Nat → Nat} (h : qa_all a2 a3 a4 a5 a6 P E N Lo Hi)
    (H : post (nI (56 + qa_sm P 4 - qa_sm (qa_T P E N Hi) 4))) : wpX_credit post (a1, a2, a3, a4, a5, a6) := by
  have hB := qa_allB h
  unfold wpX_credit
  dsimp only
  refine pk_loop (σ := Unit) (fun m i _ => wX_credit_5 post a1 a2 a3 a4 a5 a6 m (nI (56 + qa_sm P i - qa_sm (qa_T P E N Hi) i)) (nI i)) (fun _ _ => True) 4 0 () (by omega) trivial (fun m _ _ => ?_) (fun m i _ hi _ hw => ?_)
  · exact pk_le 4 4 (fun _ => H) (fun z => absurd z (by omega))
  · refine pk_le 4 i (fun z => absurd z (by omega)) (fun _ => qa_highest hi (h.1 i hi) ⟨pk_in i 4 hi, ?_⟩)
    have b0 := qa_smB hB h.2 (i := i) (by omega)
    have b1 := qa_smB hB h.2 (i := i + 1) (by omega)
    have e2 : a2 (nI i).toNatClampNeg = nI (P i) := qa_rd i (h.1 i hi).1
    have s1 : qa_sm (qa_T P E N Hi) (i + 1) = qa_sm (qa_T P E N Hi) i + qa_H (P i) (E i) (N i) (Hi i) := rfl
    have s2 : qa_sm P (i + 1) = qa_sm P i + P i := rfl
    refine nm_r (e' := nI (56 + qa_sm P (i + 1) - qa_sm (qa_T P E N Hi) (i + 1))) ?_ (nm_r (nI_1 i) (hw () trivial))
    rw [e2, qa_cps (by omega)]
    congr 1
    omega
theorem qa_sle0 {a b : Nat} (h : a ≤ b) (hb : b < 2 ^ 30) : nI a - nI b ≤ 0 := by
  rw [Int32.le_iff_toInt_le, pk_sub_toInt (by omega) hb]
  show _ ≤ (0 : Int)
  omega
theorem qa_may {post : Int32 → Prop} {s to : Nat} {a1 a2 a3 a4 a5 a6 : Nat → Int32} {P E N : Nat → Nat} {Lo Hi : Nat → Nat → Nat} (h : qa_all a2 a3 a4 a5 a6 P E N Lo Hi) (hs : s < 4) (ht : to < 2 ^ 30)
    (H1 : to ≤ P s + 24 → to ≤ 240 → (to ≤ qa_T P E N Hi s ∨ to + qa_sm (qa_T P E N Hi) 4 ≤ 56 + qa_sm P 4 + qa_T P E N Hi s) → post 1) (H0 : post 0) : wpX_mayReach post (a1, a2, a3, a4, a5, a6) (nI s) (nI to) := by
  have hB := qa_allB h
  have hS := qa_smB hB h.2 (i := 4) (by omega)
  have hBs := hB s hs
  unfold wpX_mayReach
  dsimp only
  refine qa_limit hs (h.1 s hs) (pk_le to (min (P s + 24) 240) (fun z => qa_highest hs (h.1 s hs) ?_) (fun _ => H0))
  show ∀ x : Int32, x = nI to - nI (qa_T P E N Hi s) → _
  rcases Nat.lt_or_ge (qa_T P E N Hi s) to with c | c
  · refine nm_r (pk_sub (by omega)) (pk_le (to - qa_T P E N Hi s) 0 (fun w => absurd w (by omega)) (fun _ => qa_credit h ?_))
    exact pk_lt (56 + qa_sm P 4 - qa_sm (qa_T P E N Hi) 4) (to - qa_T P E N Hi s) (fun _ => H0) (fun w => H1 (by omega) (by omega) (Or.inr (by omega)))
  · exact nm_e (br_t (qa_sle0 c (by omega)) (H1 (by omega) (by omega) (Or.inl c)))
end
section
/-! the shifts of the ranges, and the new range -/
def qa_D (s f g k : Nat) (a : Nat → Int32) : Nat → Int32 := fun j => if 13 * s + f ≤ j ∧ j < 13 * s + k then a (j + g) else a j
theorem qa_D0 (s f g : Nat) (a : Nat → Int32) : a = qa_D s f g f a := by
  funext j
  unfold qa_D
  rw [if_neg (by omega)]
theorem qa_D1 {s f g k j : Nat} {a : Nat → Int32} (h : 13 * s + f ≤ j ∧ j < 13 * s + k) : qa_D s f g k a j = a (j + g) := if_pos h
theorem qa_D2 {s f g k j : Nat} {a : Nat → Int32} (h : ¬ (13 * s + f ≤ j ∧ j < 13 * s + k)) : qa_D s f g k a j = a j := if_neg h
theorem qa_Ds {s f g k : Nat} {a : Nat → Int32} (h : f ≤ k) : upd (qa_D s f g k a) (13 * s + k) (qa_D s f g k a (13 * s + k + g)) = qa_D s f g (k + 1) a := by
  funext j
  by_cases e : j = 13 * s + k
  · rw [e, pk_us, qa_D2 (by omega), qa_D1 (by omega)]
  · rw [pk_un e]
    by_cases c : 13 * s + f ≤ j ∧ j < 13 * s + k
    · rw [qa_D1 c, qa_D1 (by omega)]
    · rw [qa_D2 c, qa_D2 (by omega)]
theorem qa_drop {post : St1 → Prop} {s n f t : Nat} {y z : Int32} {a1 a2 a3 a4 a5 a6 : Nat → Int32} (hs : s < 4) (h4 : a4 s = nI n) (hn : n ≤ 12) (hft : f ≤ t) (htn : t ≤ n) (hy : y = nI f) (hz : z = nI t)
    (H : post (a1, a2, a3, upd a4 s (nI (n - (t - f))), qa_D s f (t - f) (n - (t - f)) a5, qa_D s f (t - f) (n - (t - f)) a6)) : wpX_dropRanges post (a1, a2, a3, a4, a5, a6) (nI s) y z := by
  subst hy hz
  have hc : (nI s).toNatClampNeg = s := nI_clamp (by omega)
  have c4 : a4 (nI s).toNatClampNeg = nI n := by rw [hc, h4]
  unfold wpX_dropRanges
  dsimp only
  refine nm_r (pk_mul 13 s) (nm_r (pk_sub hft) ?_)
  generalize hg : t - f = g at H ⊢
  have upE : ∀ (i : Nat) (a c : Nat → Int32), f ≤ i → i + g < n → c = qa_D s f g i a → upd c (nI (13 * s) + nI i).toNatClampNeg (c (nI (13 * s) + nI i + nI g).toNatClampNeg) = qa_D s f g (i + 1) a := by
    intro i a c h1 h2 e
    rw [nI_add, nI_add, nI_clamp (by omega), nI_clamp (by omega), e]
    exact qa_Ds h1
  refine pk_loop (σ := (Nat → Int32) × (Nat → Int32)) (fun m i st => wX_dropRanges_14 post (nI s) (nI (13 * s)) (nI g) m (nI i) a1 a2 a3 a4 st.1 st.2) (fun i st => f ≤ i ∧ st.1 = qa_D s f g i a5 ∧ st.2 = qa_D s f g i a6) (n - g) f (a5, a6) (by omega) ⟨Nat.le_refl _, qa_D0 s f g a5, qa_D0 s f g a6⟩ (fun m st hI => ?_) (fun m i st hi hI hw => ?_)
  · obtain ⟨hf, e5, e6⟩ := hI
    refine ⟨pk_in s 4 hs, pk_le n (n - g + g) (fun _ => ⟨pk_in s 4 hs, pk_in s 4 hs, nm_r (e' := upd a4 s (nI (n - g))) ?_ ?_⟩) (fun z => absurd z (by omega)) c4 (nI_add _ _)⟩
    · rw [c4, hc, pk_sub (by omega)]
    · rw [e5, e6]
      exact H
  · obtain ⟨hf, e5, e6⟩ := hI
    refine ⟨pk_in s 4 hs, pk_le n (i + g) (fun z => absurd z (by omega)) (fun _ => ?_) c4 (nI_add _ _)⟩
    refine ⟨pk_in (13 * s + i + g) 52 (by omega) (by rw [nI_add, nI_add]), pk_in (13 * s + i) 52 (by omega) (nI_add _ _), nm_r (upE i a5 st.1 hf (by omega) e5) ?_⟩
    refine ⟨pk_in (13 * s + i + g) 52 (by omega) (by rw [nI_add, nI_add]), pk_in (13 * s + i) 52 (by omega) (nI_add _ _), nm_r (upE i a6 st.2 hf (by omega) e6) ?_⟩
    exact nm_r (nI_1 i) (hw (qa_D s f g (i + 1) a5, qa_D s f g (i + 1) a6) ⟨by omega, rfl, rfl⟩)
def qa_U (s n k : Nat) (a : Nat → Int32) : Nat → Int32 := fun j => if 13 * s + k < j ∧ j ≤ 13 * s + n then a (j - 1) else a j
theorem qa_U0 (s n : Nat) (a : Nat → Int32) : a = qa_U s n n a := by
  funext j
  unfold qa_U
  rw [if_neg (by omega)]
theorem qa_U1 {s n k j : Nat} {a : Nat → Int32} (h : 13 * s + k < j ∧ j ≤ 13 * s + n) : qa_U s n k a j = a (j - 1) := if_pos h
theorem qa_U2 {s n k j : Nat} {a : Nat → Int32} (h : ¬ (13 * s + k < j ∧ j ≤ 13 * s + n)) : qa_U s n k a j = a j := if_neg h
theorem qa_Us {s n k : Nat} {a : Nat → Int32} (h : k + 1 ≤ n) : upd (qa_U s n (k + 1) a) (13 * s + (k + 1)) (qa_U s n (k + 1) a (13 * s + k)) = qa_U s n k a := by
  funext j
  by_cases e : j = 13 * s + (k + 1)
  · rw [e, pk_us, qa_U2 (by omega), qa_U1 (by omega)]
    congr 1
  · rw [pk_un e]
    by_cases c : 13 * s + k < j ∧ j ≤ 13 * s + n
    · rw [qa_U1 c, qa_U1 (by omega)]
    · rw [qa_U2 c, qa_U2 (by omega)]
theorem qa_opn {post : St1 → Prop} {s n f : Nat} {a1 a2 a3 a4 a5 a6 : Nat → Int32} (hs : s < 4) (h4 : a4 s = nI n) (hn : n ≤ 12) (hfn : f ≤ n)
    (H : post (a1, a2, a3, upd a4 s (nI (n + 1)), qa_U s n f a5, qa_U s n f a6)) : wpX_openRange post (a1, a2, a3, a4, a5, a6) (nI s) (nI f) := by
  have hc : (nI s).toNatClampNeg = s := nI_clamp (by omega)
  have c4 : a4 (nI s).toNatClampNeg = nI n := by rw [hc, h4]
  unfold wpX_openRange
  dsimp only
  refine nm_r (pk_mul 13 s) ⟨pk_in s 4 hs, nm_r c4 ?_⟩
  have ixm : ∀ k : Nat, nI (13 * s) + nI (k + 1) - 1 = nI (13 * s + k) := by
    intro k
    rw [nI_add, show 13 * s + (k + 1) = 13 * s + k + 1 by omega, nI_pred]
  have upE : ∀ (k : Nat) (a c : Nat → Int32), k + 1 ≤ n → c = qa_U s n (k + 1) a → upd c (nI (13 * s) + nI (k + 1)).toNatClampNeg (c (nI (13 * s) + nI (k + 1) - 1).toNatClampNeg) = qa_U s n k a := by
    intro k a c h1 e
    rw [ixm, nI_add, nI_clamp (by omega), nI_clamp (by omega), e]
    exact qa_Us h1
  refine pk_loop (σ := (Nat → Int32) × (Nat → Int32)) (fun m i st => wX_openRange_13 post (nI s) (nI f) (nI (13 * s)) m (nI (n - i)) a1 a2 a3 a4 st.1 st.2) (fun i st => st.1 = qa_U s n (n - i) a5 ∧ st.2 = qa_U s n (n - i) a6) (n - f) 0 (a5, a6) (by omega) ⟨qa_U0 s n a5, qa_U0 s n a6⟩ (fun m st hI => ?_) (fun m i st hi hI hw => ?_)
  · obtain ⟨e5, e6⟩ := hI
    rw [show n - (n - f) = f by omega] at e5 e6
    refine pk_le (n - (n - f)) f (fun _ => ⟨pk_in s 4 hs, pk_in s 4 hs, nm_r (e' := upd a4 s (nI (n + 1))) ?_ ?_⟩) (fun z => absurd z (by omega))
    · rw [c4, hc, nI_1]
    · rw [e5, e6]
      exact H
  · obtain ⟨k, hk⟩ : ∃ k, n - i = k + 1 := ⟨n - i - 1, by omega⟩
    obtain ⟨e5, e6⟩ := hI
    rw [hk] at e5 e6
    have hw' : ∀ st' : (Nat → Int32) × (Nat → Int32), st'.1 = qa_U s n k a5 ∧ st'.2 = qa_U s n k a6 → wX_openRange_13 post (nI s) (nI f) (nI (13 * s)) m (nI k) a1 a2 a3 a4 st'.1 st'.2 := by
      intro st' h'
      have w := hw st'
      rw [show n - (i + 1) = k by omega] at w
      exact w h'
    show wX_openRange_13 post (nI s) (nI f) (nI (13 * s)) (m + 1) (nI (n - i)) a1 a2 a3 a4 st.1 st.2
    rw [hk]
    refine pk_le (k + 1) f (fun z => absurd z (by omega)) (fun _ => ?_)
    refine ⟨pk_in (13 * s + k) 52 (by omega) (ixm k), pk_in (13 * s + (k + 1)) 52 (by omega) (nI_add _ _), nm_r (upE k a5 st.1 (by omega) e5) ?_⟩
    refine ⟨pk_in (13 * s + k) 52 (by omega) (ixm k), pk_in (13 * s + (k + 1)) 52 (by omega) (nI_add _ _), nm_r (upE k a6 st.2 (by omega) e6) ?_⟩
    exact nm_r (pk_m1 k) (hw' (qa_U s n k a5, qa_U s n k a6) ⟨rfl, rfl⟩)
/-- the arrays behind the shift and the store hold the merged numbers -/
theorem qa_finU {s n f l N : Nat} {a : Nat → Int32} {v : Nat → Nat} (h : ∀ k, k < n → a (13 * s + k) = nI (v k)) (hl : f = l) (hfn : f ≤ n) (k : Nat) (hk : k < n + 1 - (l - f)) :
    upd (qa_U s n f a) (13 * s + f) (nI N) (13 * s + k) = nI (if k < f then v k else if k = f then N else v (k + (l - f) - 1)) := by
  rcases Nat.lt_trichotomy k f with z | z | z
  · rw [if_pos z, pk_un (by omega), qa_U2 (by omega)]
    exact h k (by omega)
  · rw [if_neg (by omega), if_pos z, z, pk_us]
  · rw [if_neg (by omega), if_neg (by omega), pk_un (by omega), qa_U1 (by omega), show 13 * s + k - 1 = 13 * s + (k + (l - f) - 1) by omega]
    exact h _ (by omega)
theorem qa_finD {s n f l N : Nat} {a : Nat → Int32} {v : Nat → Nat} (h : ∀ k, k < n → a (13 * s + k) = nI (v k)) (hl : f < l) (hln : l ≤ n) (k : Nat) (hk : k < n + 1 - (l - f)) :
    upd (qa_D s (f + 1) (l - (f + 1)) (n - (l - (f + 1))) a) (13 * s + f) (nI N) (13 * s + k) = nI (if k < f then v k else if k = f then N else v (k + (l - f) - 1)) := by
  rcases Nat.lt_trichotomy k f with z | z | z
  · rw [if_pos z, pk_un (by omega), qa_D2 (by omega)]
    exact h k (by omega)
  · rw [if_neg (by omega), if_pos z, z, pk_us]
  · rw [if_neg (by omega), if_neg (by omega), pk_un (by omega), qa_D1 (by omega), show 13 * s + k + (l - (f + 1)) = 13 * s + (k + (l - f) - 1) by omega]
    exact h _ (by omega)
theorem qa_197 {post : St1 → Prop} {s f u v : Nat} {b1 b2 b3 b4 b5 b6 : Nat → Int32} (hs : s < 4) (hf : f ≤ 12)
    (H : post (b1, b2, b3, b4, upd b5 (13 * s + f) (nI u), upd b6 (13 * s + f) (nI v))) : wX_addRange_197 post (nI (13 * s)) (nI f) (nI u) (nI v) b1 b2 b3 b4 b5 b6 := by
  have hc : (nI (13 * s) + nI f).toNatClampNeg = 13 * s + f := by rw [nI_add, nI_clamp (by omega)]
  unfold wX_addRange_197
  rw [hc]
  exact ⟨pk_in (13 * s + f) 52 (by omega) (nI_add _ _), nm_e ⟨pk_in (13 * s + f) 52 (by omega) (nI_add _ _), nm_e H⟩⟩
theorem qa_add {post : St1 → Prop} {s p n fr to : Nat} {a1 a2 a3 a4 a5 a6 : Nat → Int32} {lo hi : Nat → Nat} (hs : s < 4) (hw : qa_rw s a4 a5 a6 n lo hi) (hR : qa_Rg p n lo hi) (h1 : p ≤ fr) (h2 : fr < to) (h3 : to ≤ p + 24) (h4 : to ≤ 240)
    (H : ∀ (n' : Nat) (lo' hi' : Nat → Nat) (b5 b6 : Nat → Int32), qa_rw s (upd a4 s (nI n')) b5 b6 n' lo' hi' → qa_Rg p n' lo' hi' → (∀ x, qa_kn n' lo' hi' x ↔ (qa_kn n lo hi x ∨ (fr ≤ x ∧ x < to))) → qa_top p n' hi' = max (qa_top p n hi) to →
      (∀ j, j < 13 * s ∨ 13 * s + 13 ≤ j → b5 j = a5 j ∧ b6 j = a6 j) → post (a1, a2, a3, upd a4 s (nI n'), b5, b6)) :
    wpX_addRange post (a1, a2, a3, a4, a5, a6) (nI s) (nI fr) (nI to) := by
  obtain ⟨e4, hn, hr⟩ := hw
  have hc : (nI s).toNatClampNeg = s := nI_clamp (by omega)
  have c4 : a4 (nI s).toNatClampNeg = nI n := by rw [hc, e4]
  obtain ⟨f, f0, fn, f1, f2⟩ := qa_split n 0 (fun k => fr ≤ hi k) (Nat.zero_le _) (fun i j _ hij hj hq => Nat.le_trans hq (qa_monoH hR hij hj).1)
  obtain ⟨l, fl, ln, l1, l2⟩ := qa_split n f (fun k => to < lo k) fn (fun i j _ hij hj hq => Nat.lt_of_lt_of_le hq (qa_monoH hR hij hj).2)
  have c1 : ∀ k, k < f → hi k < fr := fun k hk => Nat.lt_of_not_le (f1 k (Nat.zero_le _) hk)
  have c2 : ∀ k, f ≤ k → k < n → fr ≤ hi k := f2
  have c3 : ∀ k, f ≤ k → k < l → lo k ≤ to := fun k hk hk2 => Nat.le_of_not_lt (l1 k hk hk2)
  have c5 : ∀ k, l ≤ k → k < n → to < lo k := l2
  have hM := qa_merge hR h1 h2 h3 h4 fl ln c1 c2 c3 c5
  have hK := qa_mergeK hR h1 h2 h3 h4 fl ln c2 c3
  have hT := qa_mergeT hR h1 h2 fl ln c1 c5
  have hM12 := qa_n12 hM
  have r5 : ∀ k, k < n → a5 (13 * s + k) = nI (lo k) := fun k hk => (hr k hk).1
  have r6 : ∀ k, k < n → a6 (13 * s + k) = nI (hi k) := fun k hk => (hr k hk).2.1
  have hB : ∀ k, k < n → lo k ≤ 240 ∧ hi k ≤ 240 := fun k hk => (hr k hk).2.2
  -- what is left behind the loops
  have fin : ∀ b5 b6 : Nat → Int32, (∀ k, k < n + 1 - (l - f) → b5 (13 * s + k) = nI (qa_mL f l fr lo k)) → (∀ k, k < n + 1 - (l - f) → b6 (13 * s + k) = nI (qa_mH f l to hi k)) → (∀ j, j < 13 * s ∨ 13 * s + 13 ≤ j → b5 j = a5 j ∧ b6 j = a6 j) →
      post (a1, a2, a3, upd a4 s (nI (n + 1 - (l - f))), b5, b6) := by
    intro b5 b6 g5 g6 go
    refine H (n + 1 - (l - f)) (qa_mL f l fr lo) (qa_mH f l to hi) b5 b6 ⟨pk_us, hM12, fun k hk => ?_⟩ hM hK hT go
    have m := hM.1 k hk
    exact ⟨g5 k hk, g6 k hk, by omega, by omega⟩
  unfold wpX_addRange
  dsimp only
  refine nm_r (pk_mul 13 s) ⟨pk_in s 4 hs, nm_r c4 ?_⟩
  refine pk_loop (σ := Nat) (fun m i c => wX_addRange_20 post (nI s) (nI fr) (nI to) (nI (13 * s)) (nI n) a1 a2 a3 a4 a5 a6 m (nI c) (nI i)) (fun i c => c = min i f) n 0 0 (Nat.zero_le _) (by omega) (fun m c hI => ?_) (fun m i c hin hI hw => ?_)
  · have ec : c = f := by omega
    subst ec
    refine pk_le n n (fun _ => ?_) (fun z => absurd z (by omega))
    refine pk_loop (σ := Nat × Nat × Nat) (fun m i st => wX_addRange_72 post (nI s) (nI to) (nI (13 * s)) (nI n) (nI c) a1 a2 a3 a4 a5 a6 m (nI st.1) (nI st.2.1) (nI st.2.2) (nI i)) (fun i st => c ≤ i ∧ st.1 = min i l ∧ st.2.1 = qa_NL c fr lo (min i l) ∧ st.2.2 = qa_NH c to hi (min i l)) n c (c, fr, to) (by omega) ?_ (fun m st hI => ?_) (fun m i st hin hI hw => ?_)
    · have em : min c l = c := by omega
      rw [em]
      exact ⟨Nat.le_refl _, rfl, (if_pos rfl).symm, (if_pos rfl).symm⟩
    · obtain ⟨_, q1, q2, q3⟩ := hI
      rw [show min n l = l by omega] at q1 q2 q3
      refine pk_le n n (fun _ => pk_eq c st.1 (fun z => ?_) (fun z => ?_)) (fun z => absurd z (by omega))
      · rw [q2, q3]
        refine qa_opn hs e4 hn (by omega) (qa_197 hs (by omega) ?_)
        have g := fin _ _ (qa_finU (N := qa_NL c fr lo l) r5 (by omega : c = l) fn) (qa_finU (N := qa_NH c to hi l) r6 (by omega : c = l) fn) (fun j hj => ⟨by rw [pk_un (by omega), qa_U2 (by omega)], by rw [pk_un (by omega), qa_U2 (by omega)]⟩)
        rw [show n + 1 - (l - c) = n + 1 by omega] at g
        exact g
      · rw [q2, q3]
        refine qa_drop (f := c + 1) (t := l) hs e4 hn (by omega) (by omega) (nI_1 c) (by rw [q1]) (qa_197 hs (by omega) ?_)
        have g := fin _ _ (qa_finD (N := qa_NL c fr lo l) r5 (by omega : c < l) ln) (qa_finD (N := qa_NH c to hi l) r6 (by omega : c < l) ln) (fun j hj => ⟨by rw [pk_un (by omega), qa_D2 (by omega)], by rw [pk_un (by omega), qa_D2 (by omega)]⟩)
        rw [show n + 1 - (l - c) = n - (l - (c + 1)) by omega] at g
        exact g
    · obtain ⟨hci, q1, q2, q3⟩ := hI
      obtain ⟨b5, b6⟩ := hB i hin
      have ix : nI (13 * s) + nI i = nI (13 * s + i) := nI_add _ _
      have v5 : a5 (nI (13 * s) + nI i).toNatClampNeg = nI (lo i) := qa_rd (13 * s + i) (r5 i hin) ix
      have v6 : a6 (nI (13 * s) + nI i).toNatClampNeg = nI (hi i) := qa_rd (13 * s + i) (r6 i hin) ix
      have vi : vp_in (nI (13 * s) + nI i) 52 := pk_in (13 * s + i) 52 (by omega) ix
      have bNL : qa_NL c fr lo (min i l) ≤ 240 := by
        unfold qa_NL
        by_cases e : min i l = c
        · rw [if_pos e]; omega
        · rw [if_neg e]; omega
      refine pk_le n i (fun z => absurd z (by omega)) (fun _ => ⟨vi, pk_lt to (lo i) (fun z => nm_r (nI_1 i) (hw st ⟨by omega, ?_, ?_, ?_⟩)) (fun z => ⟨vi, ?_⟩) rfl v5⟩)
      · have := c3 i hci
        omega
      · have hl : min (i + 1) l = min i l := by
          have := c3 i hci
          omega
        rw [hl]; exact q2
      · have hl : min (i + 1) l = min i l := by
          have := c3 i hci
          omega
        rw [hl]; exact q3
      · have hil : i < l := by
          rcases Nat.lt_or_ge i l with y | y
          · exact y
          · have := c5 i y hin
            omega
        rw [show min i l = i by omega] at q1 q2 q3 bNL
        have hm1 : min (i + 1) l = i + 1 := by omega
        have gi := hR.1 i hin
        have NLs : qa_NL c fr lo (i + 1) = min fr (lo c) := if_neg (by omega)
        have NHs : qa_NH c to hi (i + 1) = max to (hi i) := if_neg (by omega)
        have NLi : (qa_NL c fr lo i ≤ lo i → qa_NL c fr lo i = min fr (lo c)) ∧ (lo i < qa_NL c fr lo i → lo i = min fr (lo c)) := by
          by_cases e : i = c
          · rw [e]
            have e1 : qa_NL c fr lo c = fr := if_pos rfl
            rw [e1]
            omega
          · have e1 : qa_NL c fr lo i = min fr (lo c) := if_neg e
            rw [e1]
            have e2 := (qa_monoH hR hci hin).2
            omega
        have NHi : (hi i ≤ qa_NH c to hi i → qa_NH c to hi i = max to (hi i)) ∧ (qa_NH c to hi i < hi i → hi i = max to (hi i)) ∧ qa_NH c to hi i ≤ 240 := by
          by_cases e : i = c
          · rw [e] at b6 gi ⊢
            have e1 : qa_NH c to hi c = to := if_pos rfl
            rw [e1]
            omega
          · have e1 : qa_NH c to hi i = max to (hi (i - 1)) := if_neg e
            rw [e1]
            have e2 := qa_mono hR i (i - 1) (by omega) hin
            omega
        -- behind the new low end: the new high end
        have step : ∀ u : Nat, u = min fr (lo c) → wX_addRange_123 post (wX_addRange_72 post (nI s) (nI to) (nI (13 * s)) (nI n) (nI c) a1 a2 a3 a4 a5 a6 m) (nI s) (nI to) (nI (13 * s)) (nI n) (nI c) (nI st.2.2) (nI i) (nI u) a1 a2 a3 a4 a5 a6 := by
          intro u hu
          unfold wX_addRange_123
          rw [q3]
          refine ⟨vi, pk_le (hi i) (qa_NH c to hi i) (fun z2 => nm_r (nI_1 i) (nm_r (nI_1 i) ?_)) (fun z2 => ⟨vi, nm_r v6 (nm_r (nI_1 i) (nm_r (nI_1 i) ?_))⟩) v6⟩
          · exact hw (i + 1, u, qa_NH c to hi i) ⟨by omega, hm1.symm, by rw [hm1, NLs]; exact hu, by rw [hm1, NHs]; exact NHi.1 z2⟩
          · exact hw (i + 1, u, hi i) ⟨by omega, hm1.symm, by rw [hm1, NLs]; exact hu, by rw [hm1, NHs]; exact NHi.2.1 z2⟩
        rw [q2]
        refine pk_le (qa_NL c fr lo i) (lo i) (fun z2 => step _ (NLi.1 z2)) (fun z2 => ⟨vi, ?_⟩) rfl v5
        rw [v5]
        exact step _ (NLi.2 z2)
  · obtain ⟨b5, b6⟩ := hB i hin
    have ix : nI (13 * s) + nI i = nI (13 * s + i) := nI_add _ _
    have v6 : a6 (nI (13 * s) + nI i).toNatClampNeg = nI (hi i) := qa_rd (13 * s + i) (r6 i hin) ix
    refine pk_le n i (fun z => absurd z (by omega)) (fun _ => ⟨pk_in (13 * s + i) 52 (by omega) ix, pk_le fr (hi i) (fun z => nm_r (nI_1 i) (hw c ?_)) (fun z => nm_r (nI_1 i) (nm_r (nI_1 i) (hw (i + 1) ?_))) rfl v6⟩)
    · have := c1 i
      omega
    · have := c2 i
      omega
end
section
/-! the object's invariant, and the methods that change the object -/
def qa_G (a2 a3 a4 a5 a6 : Nat → Int32) (P : Nat → Nat) (K : Nat → Nat → Prop) : Prop :=
  ∃ (E N : Nat → Nat) (Lo Hi : Nat → Nat → Nat), qa_all a2 a3 a4 a5 a6 P E N Lo Hi ∧ ∀ s x, s < 4 → (K s x ↔ qa_kn (N s) (Lo s) (Hi s) x)
theorem qa_GB {a2 a3 a4 a5 a6 : Nat → Int32} {P : Nat → Nat} {K : Nat → Nat → Prop} (h : qa_G a2 a3 a4 a5 a6 P K) {s : Nat} (hs : s < 4) : P s ≤ 240 ∧ ∀ x, K s x → P s ≤ x ∧ x < P s + 24 ∧ x < 240 := by
  obtain ⟨E, N, Lo, Hi, hA, hK⟩ := h
  have h1 := hA.1 s hs
  refine ⟨h1.2.1, fun x hx => ?_⟩
  have h2 := qa_knB h1.2.2.2.2 ((hK s x hs).mp hx)
  omega
theorem qa_frm {j p e n : Nat} {a2 a3 a4 a5 a6 b2 b3 b4 b5 b6 : Nat → Int32} {lo hi : Nat → Nat} (h : qa_str j a2 a3 a4 a5 a6 p e n lo hi) (e2 : b2 j = a2 j) (e3 : b3 j = a3 j) (e4 : b4 j = a4 j)
    (e5 : ∀ k, k < 13 → b5 (13 * j + k) = a5 (13 * j + k)) (e6 : ∀ k, k < 13 → b6 (13 * j + k) = a6 (13 * j + k)) : qa_str j b2 b3 b4 b5 b6 p e n lo hi := by
  obtain ⟨h2, hp, he, ⟨h4, hn, hr⟩, hR⟩ := h
  refine ⟨by rw [e2, h2], hp, by rw [e3]; exact he, ⟨by rw [e4, h4], hn, fun k hk => ?_⟩, hR⟩
  rw [e5 k (by omega), e6 k (by omega)]
  exact hr k hk
theorem qa_finish {post : Int32 → St1 → Prop} {s x : Nat} {a1 a2 a3 a4 a5 a6 : Nat → Int32} {P : Nat → Nat} {K : Nat → Nat → Prop} (hG : qa_G a2 a3 a4 a5 a6 P K) (hs : s < 4) (hx : x < 2 ^ 30)
    (H : ∀ (r : Int32) (b3 : Nat → Int32), qa_G a2 b3 a4 a5 a6 P K → post r (a1, a2, b3, a4, a5, a6)) : wpX_finish post (a1, a2, a3, a4, a5, a6) (nI s) (nI x) := by
  have hG' := hG
  obtain ⟨E, N, Lo, Hi, hA, hK⟩ := hG
  have hB := qa_HB (hA.1 s hs)
  have hc : (nI s).toNatClampNeg = s := nI_clamp (by omega)
  have F : wX_finish_29 post (nI s) (nI x) a1 a2 a3 a4 a5 a6 := by
    unfold wX_finish_29
    refine qa_highest hs (hA.1 s hs) (pk_le (qa_H (P s) (E s) (N s) (Hi s)) x (fun z => qa_may hA hs hx (fun m1 m2 m3 => br_f (by decide) ⟨pk_in s 4 hs, nm_e (H 0 _ ?_)⟩) (br_t rfl (H _ a3 hG'))) (fun _ => H _ a3 hG'))
    rw [hc]
    refine ⟨qa_fu E s (x + 1), N, Lo, Hi, ⟨fun j hj => ?_, ?_⟩, hK⟩
    · by_cases e : j = s
      · subst e
        rw [qa_fus]
        obtain ⟨h2, hp, he, hw, hR⟩ := hA.1 j hj
        refine ⟨h2, hp, Or.inr ⟨by omega, ?_, ?_, ?_, ?_⟩, hw, hR⟩
        · rw [pk_us, Nat.add_sub_cancel]
        · omega
        · omega
        · omega
      · rw [qa_fun e]
        exact qa_frm (hA.1 j hj) rfl (pk_un e) rfl (fun _ _ => rfl) (fun _ _ => rfl)
    · have t1 : qa_T P (qa_fu E s (x + 1)) N Hi s = x := by
        unfold qa_T
        rw [qa_fus]
        unfold qa_H
        rw [if_neg (by omega), Nat.add_sub_cancel]
      have t2 := qa_smV (f := qa_T P E N Hi) (g := qa_T P (qa_fu E s (x + 1)) N Hi) hs (fun j hj hne => by unfold qa_T; rw [qa_fun hne])
      rw [t1] at t2
      have t3 := hA.2
      have t4 : qa_T P E N Hi s = qa_H (P s) (E s) (N s) (Hi s) := rfl
      omega
  unfold wpX_finish
  dsimp only
  refine qa_isS hs (br_f (by decide) (pk_le 0 x (fun _ => ⟨pk_in s 4 hs, nm_e ?_⟩) (fun z => absurd z (by omega))))
  exact br_c (fun _ => F) (fun _ => br_c (fun _ => F) (fun _ => H _ a3 hG'))
/-- the ring behind a piece: c1 holds the fresh bytes, all else is as in a1 -/
def qa_ring (s p : Nat) (kn : Nat → Prop) (b : Int32) (off fr i : Nat) (a1 c1 : Nat → Int32) : Prop :=
  (∀ x, p ≤ x → x < p + 24 → (fr ≤ x ∧ x < i ∧ ¬ kn x → c1 (32 * s + x % 32) = qa_by b (x - off)) ∧ (¬ (fr ≤ x ∧ x < i ∧ ¬ kn x) → c1 (32 * s + x % 32) = a1 (32 * s + x % 32)))
  ∧ (∀ j, j < 32 * s ∨ 32 * s + 32 ≤ j → c1 j = a1 j) ∧ (∀ j, j < 128 → ∃ t : Nat, t < 256 ∧ c1 j = nI t)
theorem qa_ring0 {s p : Nat} {kn : Nat → Prop} {b : Int32} {off fr i : Nat} {a1 : Nat → Int32} (h : i ≤ fr) (hb : ∀ j, j < 128 → ∃ t : Nat, t < 256 ∧ a1 j = nI t) : qa_ring s p kn b off fr i a1 a1 :=
  ⟨fun x _ _ => ⟨fun z => absurd z.1 (by omega), fun _ => rfl⟩, fun _ _ => rfl, hb⟩
theorem qa_ringK {s p : Nat} {kn : Nat → Prop} {b : Int32} {off fr i : Nat} {a1 c1 : Nat → Int32} (h : qa_ring s p kn b off fr i a1 c1) (hk : kn i) : qa_ring s p kn b off fr (i + 1) a1 c1 := by
  refine ⟨fun x h1 h2 => ⟨fun z => ?_, fun z => ?_⟩, h.2⟩
  · refine (h.1 x h1 h2).1 ⟨z.1, ?_, z.2.2⟩
    have e : x ≠ i := fun e => z.2.2 (by rw [e]; exact hk)
    omega
  · exact (h.1 x h1 h2).2 (fun y => z ⟨y.1, by omega, y.2.2⟩)
theorem qa_ringU {s p : Nat} {kn : Nat → Prop} {b : Int32} {off fr i : Nat} {a1 c1 : Nat → Int32} (h : qa_ring s p kn b off fr i a1 c1) (hs : s < 4) (hk : ¬ kn i) (hf : fr ≤ i) (hp : p ≤ i) (hi : i < p + 24) :
    qa_ring s p kn b off fr (i + 1) a1 (upd c1 (32 * s + i % 32) (qa_by b (i - off))) := by
  refine ⟨fun x h1 h2 => ?_, fun j hj => ?_, fun j hj => ?_⟩
  · by_cases e : x = i
    · subst e
      rw [pk_us]
      exact ⟨fun _ => rfl, fun z => absurd ⟨hf, by omega, hk⟩ z⟩
    · rw [pk_un (by omega)]
      exact ⟨fun z => (h.1 x h1 h2).1 ⟨z.1, by omega, z.2.2⟩, fun z => (h.1 x h1 h2).2 (fun y => z ⟨y.1, by omega, y.2.2⟩)⟩
  · rw [pk_un (by omega)]
    exact h.2.1 j hj
  · by_cases e : j = 32 * s + i % 32
    · rw [e, pk_us]
      exact qa_byE b _
    · rw [pk_un e]
      exact h.2.2 j hj
theorem qa_cell (s x : Nat) (hs : s < 4) (hx : x < 2 ^ 31) : (32 : Int32) * nI s + (nI x &&& 31) = nI (32 * s + x % 32) := by
  rw [show (32 : Int32) * nI s = nI (32 * s) from pk_mul 32 s, pk_andN (by omega) (m := 31) 5 (by decide), nI_add]
theorem qa_pc {post : Int32 → St1 → Prop} {s p n off fr to : Nat} {b : Int32} {a1 a2 a3 a4 a5 a6 : Nat → Int32} {lo hi : Nat → Nat} (hs : s < 4) (hw : qa_rw s a4 a5 a6 n lo hi) (hR : qa_Rg p n lo hi)
    (hb : ∀ j, j < 128 → ∃ t : Nat, t < 256 ∧ a1 j = nI t) (h1 : p ≤ fr) (h0 : off ≤ fr) (h2 : fr ≤ 2000) (h3 : to ≤ p + 24) (h4 : to ≤ 240)
    (HA : to ≤ fr → post 0 (a1, a2, a3, a4, a5, a6))
    (HB : fr < to → ∀ (c : Nat) (c1 : Nat → Int32) (n' : Nat) (lo' hi' : Nat → Nat) (b5 b6 : Nat → Int32), c < 2 ^ 31 → qa_ring s p (qa_kn n lo hi) b off fr to a1 c1 → qa_rw s (upd a4 s (nI n')) b5 b6 n' lo' hi' → qa_Rg p n' lo' hi' → (∀ x, qa_kn n' lo' hi' x ↔ (qa_kn n lo hi x ∨ (fr ≤ x ∧ x < to))) → qa_top p n' hi' = max (qa_top p n hi) to →
      (∀ j, j < 13 * s ∨ 13 * s + 13 ≤ j → b5 j = a5 j ∧ b6 j = a6 j) → post (nI c) (c1, a2, a3, upd a4 s (nI n'), b5, b6)) :
    ∃ fu : Nat, wX_piece_100 post (nI s) (nI off) b (nI to) (nI fr) fu 0 (nI fr) a1 a2 a3 a4 a5 a6 := by
  rcases Nat.lt_or_ge fr to with z | z
  · refine pk_loop (σ := Nat × (Nat → Int32)) (fun m i st => wX_piece_100 post (nI s) (nI off) b (nI to) (nI fr) m (nI st.1) (nI i) st.2 a2 a3 a4 a5 a6) (fun i st => fr ≤ i ∧ st.1 ≤ i - fr ∧ qa_ring s p (qa_kn n lo hi) b off fr i a1 st.2) to fr (0, a1) (by omega) ⟨Nat.le_refl _, Nat.zero_le _, qa_ring0 (Nat.le_refl _) hb⟩ (fun m st hI => ?_) (fun m i st hi' hI hwk => ?_)
    · obtain ⟨q0, q1, q2⟩ := hI
      refine pk_le to to (fun _ => pk_le to fr (fun y => absurd y (by omega)) (fun _ => ?_)) (fun y => absurd y (by omega))
      exact qa_add hs hw hR h1 z h3 h4 (fun n' lo' hi' b5 b6 g1 g2 g3 g4 g5 => HB z st.1 st.2 n' lo' hi' b5 b6 (by omega) q2 g1 g2 g3 g4 g5)
    · obtain ⟨q0, q1, q2⟩ := hI
      refine pk_le to i (fun y => absurd y (by omega)) (fun _ => qa_known hs hw (by omega) (fun hk => br_f (by decide) (nm_r (nI_1 i) (hwk st ⟨by omega, by omega, qa_ringK q2 hk⟩))) (fun hk => br_t rfl ?_))
      have ec := qa_cell s i hs (by omega)
      have e1 : upd st.2 ((32 : Int32) * nI s + (nI i &&& 31)).toNatClampNeg ((b >>> ((8 * (nI i - nI off)) &&& 31)) &&& 255) = upd st.2 (32 * s + i % 32) (qa_by b (i - off)) := by
        rw [ec, nI_clamp (by omega), pk_sub (by omega)]
        rfl
      refine ⟨pk_in (32 * s + i % 32) 128 (by omega) ec, nm_r e1 (nm_r (nI_1 st.1) (nm_r (nI_1 i) ?_))⟩
      exact hwk (st.1 + 1, upd st.2 (32 * s + i % 32) (qa_by b (i - off))) ⟨by omega, by show st.1 + 1 ≤ _; omega, qa_ringU q2 hs hk q0 (by omega) (by omega)⟩
  · exact ⟨1, pk_le to fr (fun _ => pk_le to fr (fun _ => HA z) (fun y => absurd y (by omega))) (fun y => absurd y (by omega))⟩
theorem qa_pieceN {post : Int32 → St1 → Prop} {s len : Nat} {x b : Int32} {a1 a2 a3 a4 a5 a6 : Nat → Int32} (hs : s < 4) (hl1 : 1 ≤ len) (hl4 : len ≤ 4) (hx : x < 0) (H : post (-1) (a1, a2, a3, a4, a5, a6)) :
    wpX_piece post (a1, a2, a3, a4, a5, a6) (nI s) x (nI len) b := by
  unfold wpX_piece
  dsimp only
  exact qa_isS hs (br_f (by decide) (pk_lt len 1 (fun z => absurd z (by omega)) (fun _ => pk_lt 4 len (fun z => absurd z (by omega)) (fun _ => br_t hx H))))
theorem qa_piece {post : Int32 → St1 → Prop} {s off len : Nat} {b : Int32} {a1 a2 a3 a4 a5 a6 : Nat → Int32} {P : Nat → Nat} {K : Nat → Nat → Prop} (hG : qa_G a2 a3 a4 a5 a6 P K) (hs : s < 4) (hl1 : 1 ≤ len) (hl4 : len ≤ 4) (ho : off ≤ 1000)
    (hb : ∀ j, j < 128 → ∃ t : Nat, t < 256 ∧ a1 j = nI t)
    (Hn : ∀ r : Int32, r < 0 → post r (a1, a2, a3, a4, a5, a6))
    (Hok : ∀ (c : Nat) (c1 b4 b5 b6 : Nat → Int32) (K' : Nat → Nat → Prop), c < 2 ^ 31 → off + len ≤ P s + 24 → qa_G a2 a3 b4 b5 b6 P K' → (∀ x, K' s x ↔ (K s x ∨ (P s ≤ x ∧ off ≤ x ∧ x < off + len))) → (∀ j x, j ≠ s → j < 4 → (K' j x ↔ K j x)) →
      qa_ring s (P s) (K s) b off off (off + len) a1 c1 → post (nI c) (c1, a2, a3, b4, b5, b6)) :
    wpX_piece post (a1, a2, a3, a4, a5, a6) (nI s) (nI off) (nI len) b := by
  have hG' := hG
  obtain ⟨E, N, Lo, Hi, hA, hK⟩ := hG
  have hB := qa_HB (hA.1 s hs)
  have hS := hA.1 s hs
  obtain ⟨h2, hp, he, hw, hR⟩ := hS
  have hc : (nI s).toNatClampNeg = s := nI_clamp (by omega)
  have c2 : a2 (nI s).toNatClampNeg = nI (P s) := by rw [hc, h2]
  -- the ring, with the known set as K
  have hKs : ∀ x, K s x ↔ qa_kn (N s) (Lo s) (Hi s) x := fun x => hK s x hs
  have core : ∀ fr, fr = max off (P s) → (E s = 0 ∨ off + len ≤ E s - 1) → off + len ≤ P s + 24 → off + len ≤ 240 → (off + len ≤ qa_T P E N Hi s ∨ off + len + qa_sm (qa_T P E N Hi) 4 ≤ 56 + qa_sm P 4 + qa_T P E N Hi s) →
      ∃ fu : Nat, wX_piece_100 post (nI s) (nI off) b (nI (off + len)) (nI fr) fu 0 (nI fr) a1 a2 a3 a4 a5 a6 := by
    intro fr hfr hE m1 m2 m3
    refine qa_pc (p := P s) hs hw hR hb (by omega) (by omega) (by omega) m1 m2 (fun z => ?_) (fun z c c1 n' lo' hi' b5 b6 hc31 hring g1 g2 g3 g4 g5 => ?_)
    · refine Hok 0 a1 a4 a5 a6 K (by omega) m1 hG' (fun x => ⟨fun y => Or.inl y, fun y => ?_⟩) (fun j x _ _ => Iff.rfl) ⟨fun x x1 x2 => ⟨fun y => absurd y.2.1 (by omega), fun _ => rfl⟩, fun _ _ => rfl, hb⟩
      rcases y with y | y
      · exact y
      · omega
    · refine Hok c c1 (upd a4 s (nI n')) b5 b6 (qa_fu K s (fun x => qa_kn n' lo' hi' x)) hc31 m1 ⟨E, qa_fu N s n', qa_fu Lo s lo', qa_fu Hi s hi', ⟨fun j hj => ?_, ?_⟩, fun j x hj => ?_⟩ (fun x => ?_) (fun j x hj _ => by rw [qa_fun hj]) ?_
      · by_cases e : j = s
        · subst e
          rw [qa_fus, qa_fus, qa_fus]
          refine ⟨h2, hp, ?_, g1, g2⟩
          rw [g4]
          rcases he with ⟨e0, ex⟩ | ⟨e0, ex, et, e1, e2⟩
          · exact Or.inl ⟨e0, ex⟩
          · exact Or.inr ⟨e0, ex, by omega, e1, e2⟩
        · rw [qa_fun e, qa_fun e, qa_fun e]
          exact qa_frm (hA.1 j hj) rfl rfl (pk_un e) (fun k hk => (g5 _ (by omega)).1) (fun k hk => (g5 _ (by omega)).2)
      · have t1 : qa_T P E (qa_fu N s n') (qa_fu Hi s hi') s = qa_H (P s) (E s) n' hi' := by
          unfold qa_T
          rw [qa_fus, qa_fus]
        have t2 := qa_smV (f := qa_T P E N Hi) (g := qa_T P E (qa_fu N s n') (qa_fu Hi s hi')) hs (fun j hj hne => by unfold qa_T; rw [qa_fun hne, qa_fun hne])
        rw [t1] at t2
        have t3 := hA.2
        have t4 : qa_T P E N Hi s = qa_H (P s) (E s) (N s) (Hi s) := rfl
        have t5 : qa_H (P s) (E s) n' hi' ≤ max (qa_H (P s) (E s) (N s) (Hi s)) (off + len) := by
          unfold qa_H
          by_cases e0 : E s = 0
          · rw [if_pos e0, if_pos e0, g4]
            omega
          · rw [if_neg e0, if_neg e0]
            omega
        omega
      · by_cases e : j = s
        · subst e
          rw [qa_fus, qa_fus, qa_fus, qa_fus]
        · rw [qa_fun e, qa_fun e, qa_fun e, qa_fun e]
          exact hK j x hj
      · rw [qa_fus, g3 x, hKs x]
        constructor
        · rintro (y | y)
          · exact Or.inl y
          · exact Or.inr (by omega)
        · rintro (y | y)
          · exact Or.inl y
          · exact Or.inr (by omega)
      · refine ⟨fun x x1 x2 => ⟨fun y => ?_, fun y => ?_⟩, hring.2⟩
        · exact (hring.1 x x1 x2).1 ⟨by omega, y.2.1, fun w => y.2.2 ((hKs x).mpr w)⟩
        · exact (hring.1 x x1 x2).2 (fun w => y ⟨by omega, w.2.1, fun v => w.2.2 ((hKs x).mp v)⟩)
  have F : (E s = 0 ∨ off + len ≤ E s - 1) → wX_piece_58 post (nI s) (nI off) b (nI (off + len)) a1 a2 a3 a4 a5 a6 := by
    intro hE
    unfold wX_piece_58
    refine qa_may hA hs (by omega) (fun m1 m2 m3 => br_f (by decide) ⟨pk_in s 4 hs, pk_le off (P s) (fun z => ⟨pk_in s 4 hs, nm_r c2 (core (P s) (by omega) hE m1 m2 m3)⟩) (fun z => core off (by omega) hE m1 m2 m3) rfl c2⟩) (br_t rfl (Hn _ (by decide)))
  unfold wpX_piece
  dsimp only
  refine qa_isS hs (br_f (by decide) (pk_lt len 1 (fun z => absurd z (by omega)) (fun _ => pk_lt 4 len (fun z => absurd z (by omega)) (fun _ => pk_lt off 0 (fun z => absurd z (by omega)) (fun _ => pk_le off 1000 (fun _ => nm_r (nI_add off len) ⟨pk_in s 4 hs, ?_⟩) (fun z => absurd z (by omega)))))))
  rcases he with ⟨e0, ex⟩ | ⟨e0, ex, et, e1, e2⟩
  · exact br_t (by rw [hc, ex]; decide) (F (Or.inl e0))
  · have c3 : a3 (nI s).toNatClampNeg = nI (E s - 1) := by rw [hc, ex]
    exact br_f (by rw [c3]; exact nI_pos (by omega)) ⟨pk_in s 4 hs, pk_le (off + len) (E s - 1) (fun z => F (Or.inr z)) (fun _ => Hn _ (by decide)) rfl c3⟩
theorem qa_read {post : Int32 → St1 → Prop} {s : Nat} {a1 a2 a3 a4 a5 a6 : Nat → Int32} {P : Nat → Nat} {K : Nat → Nat → Prop} (hG : qa_G a2 a3 a4 a5 a6 P K) (hs : s < 4)
    (H1 : K s (P s) → ∀ b2 b4 b5 b6 : Nat → Int32, qa_G b2 a3 b4 b5 b6 (qa_fu P s (P s + 1)) (qa_fu K s (fun x => K s x ∧ P s < x)) → post (a1 (32 * s + P s % 32)) (a1, b2, a3, b4, b5, b6))
    (H0 : ¬ K s (P s) → ∀ r : Int32, r < 0 → post r (a1, a2, a3, a4, a5, a6)) : wpX_read post (a1, a2, a3, a4, a5, a6) (nI s) := by
  obtain ⟨E, N, Lo, Hi, hA, hK⟩ := hG
  have hB := qa_HB (hA.1 s hs)
  have hS := hA.1 s hs
  obtain ⟨h2, hp, he, hw, hR⟩ := hS
  have hw' := hw
  obtain ⟨h4, hn, hr⟩ := hw'
  have hc : (nI s).toNatClampNeg = s := nI_clamp (by omega)
  have c2 : a2 (nI s).toNatClampNeg = nI (P s) := by rw [hc, h2]
  have c13 : ((13 : Int32) * nI s).toNatClampNeg = 13 * s := by
    rw [show (13 : Int32) * nI s = nI (13 * s) from pk_mul 13 s, nI_clamp (by omega)]
  have v13 : vp_in ((13 : Int32) * nI s) 52 := pk_in (13 * s) 52 (by omega) (pk_mul 13 s)
  -- the new picture, whichever way the first range went
  have fin : ∀ (n' : Nat) (lo' hi' : Nat → Nat) (b4 b5 b6 : Nat → Int32), K s (P s) → qa_rw s b4 b5 b6 n' lo' hi' → qa_Rg (P s + 1) n' lo' hi' → (∀ x, qa_kn n' lo' hi' x ↔ (qa_kn (N s) (Lo s) (Hi s) x ∧ P s < x)) → qa_top (P s + 1) n' hi' = qa_top (P s) (N s) (Hi s) →
      (∀ j, j ≠ s → b4 j = a4 j) → (∀ j, j < 13 * s ∨ 13 * s + 13 ≤ j → b5 j = a5 j ∧ b6 j = a6 j) → post (a1 (32 * s + P s % 32)) (a1, upd a2 s (nI (P s + 1)), a3, b4, b5, b6) := by
    intro n' lo' hi' b4 b5 b6 hk g1 g2 g3 g4 g5 g6
    have hkb := qa_knB hR ((hK s _ hs).mp hk)
    refine H1 hk _ b4 b5 b6 ⟨E, qa_fu N s n', qa_fu Lo s lo', qa_fu Hi s hi', ⟨fun j hj => ?_, ?_⟩, fun j x hj => ?_⟩
    · by_cases e : j = s
      · subst e
        rw [qa_fus, qa_fus, qa_fus, qa_fus]
        refine ⟨pk_us, by omega, ?_, g1, g2⟩
        rw [g4]
        rcases he with ⟨e0, ex⟩ | ⟨e0, ex, et, e1, e2⟩
        · exact Or.inl ⟨e0, ex⟩
        · exact Or.inr ⟨e0, ex, et, by omega, e2⟩
      · rw [qa_fun e, qa_fun e, qa_fun e, qa_fun e]
        exact qa_frm (hA.1 j hj) (pk_un e) rfl (g5 j e) (fun k hk => (g6 _ (by omega)).1) (fun k hk => (g6 _ (by omega)).2)
    · have t1 : qa_T (qa_fu P s (P s + 1)) E (qa_fu N s n') (qa_fu Hi s hi') s = qa_T P E N Hi s := by
        unfold qa_T
        rw [qa_fus, qa_fus, qa_fus]
        unfold qa_H
        rw [g4]
      have t2 := qa_smV (f := qa_T P E N Hi) (g := qa_T (qa_fu P s (P s + 1)) E (qa_fu N s n') (qa_fu Hi s hi')) hs (fun j hj hne => by unfold qa_T; rw [qa_fun hne, qa_fun hne, qa_fun hne])
      have t5 := qa_smV (f := P) (g := qa_fu P s (P s + 1)) hs (fun j hj hne => qa_fun hne)
      rw [qa_fus] at t5
      have t3 := hA.2
      omega
    · by_cases e : j = s
      · subst e
        rw [qa_fus, qa_fus, qa_fus, qa_fus, g3 x, hK j x hj]
      · rw [qa_fun e, qa_fun e, qa_fun e, qa_fun e]
        exact hK j x hj
  have R91 : ∀ b2 b3 b4 b5 b6 : Nat → Int32, P s < 2 ^ 31 → post (a1 (32 * s + P s % 32)) (a1, b2, b3, b4, b5, b6) → wX_read_91 post (nI s) (nI (P s)) a1 b2 b3 b4 b5 b6 := by
    intro b2 b3 b4 b5 b6 hp31 h
    have ec := qa_cell s (P s) hs hp31
    unfold wX_read_91
    refine ⟨pk_in (32 * s + P s % 32) 128 (by omega) ec, ?_⟩
    rw [ec, nI_clamp (by omega)]
    exact h
  unfold wpX_read
  dsimp only
  refine qa_isS hs (br_f (by decide) ⟨pk_in s 4 hs, nm_r c2 ⟨pk_in s 4 hs, br_c (fun z => H0 (fun hk => ?_) _ (by decide)) (fun _ => qa_known hs hw (by omega) (fun hk => br_f (by decide) ?_) (fun hk => br_t rfl (H0 (fun z => hk ((hK s _ hs).mp z)) _ (by decide))))⟩⟩)
  · have hkb := qa_knB hR ((hK s _ hs).mp hk)
    rw [hc] at z
    rcases he with ⟨e0, ex⟩ | ⟨e0, ex, et, e1, e2⟩
    · rw [ex] at z
      exact absurd (show nI (P s) < 0 by rw [← z]; decide) (nI_pos (by omega))
    · rw [ex, nI_eq (by omega) (by omega)] at z
      omega
  · have hkP := (qa_knP hR).mp hk
    obtain ⟨r5, r6, r7, r8⟩ := hr 0 hkP.1
    rw [Nat.add_zero] at r5 r6
    have hkK : K s (P s) := (hK s _ hs).mpr hk
    rw [hc, c13]
    have e5 : upd a5 (13 * s) (a5 (13 * s) + 1) = upd a5 (13 * s) (nI (P s + 1)) := by
      rw [r5, nI_1, hkP.2]
    refine ⟨pk_in s 4 hs, nm_r (by rw [nI_1]) ⟨v13, v13, nm_r e5 ⟨v13, v13, pk_eq (P s + 1) (Hi s 0) (fun z => ?_) (fun z => ?_) pk_us r6⟩⟩⟩
    · refine qa_drop (f := 0) (t := 1) hs h4 hn (by omega) (by omega) rfl rfl (R91 _ _ _ _ _ (by omega) ?_)
      obtain ⟨g1, g2⟩ := qa_take2 hR hkP.1 hkP.2 z
      refine fin (N s - 1) (fun k => Lo s (k + 1)) (fun k => Hi s (k + 1)) (upd a4 s (nI (N s - (1 - 0)))) (qa_D s 0 (1 - 0) (N s - (1 - 0)) (upd a5 (13 * s) (nI (P s + 1)))) (qa_D s 0 (1 - 0) (N s - (1 - 0)) a6) hkK ⟨pk_us, by omega, fun k hk2 => ?_⟩ g1 g2 (qa_takeT2 hkP.1 z) (fun j hj => pk_un hj) (fun j hj => ?_)
      · obtain ⟨q5, q6, q7, q8⟩ := hr (k + 1) (by omega)
        rw [qa_D1 (by omega), qa_D1 (by omega), pk_un (by omega)]
        exact ⟨q5, q6, q7, q8⟩
      · rw [qa_D2 (by omega), qa_D2 (by omega), pk_un (by omega)]
        exact ⟨rfl, rfl⟩
    · refine R91 _ _ _ _ _ (by omega) ?_
      obtain ⟨g1, g2⟩ := qa_take1 hR hkP.1 hkP.2 z
      refine fin (N s) (fun k => if k = 0 then P s + 1 else Lo s k) (Hi s) a4 (upd a5 (13 * s) (nI (P s + 1))) a6 hkK ⟨h4, hn, fun k hk2 => ?_⟩ g1 g2 (qa_takeT1 hkP.1) (fun j hj => rfl) (fun j hj => ?_)
      · obtain ⟨q5, q6, q7, q8⟩ := hr k hk2
        have m := g1.1 k hk2
        dsimp only at m
        refine ⟨?_, q6, by show (if k = 0 then P s + 1 else Lo s k) ≤ 240; omega, q8⟩
        show upd a5 (13 * s) (nI (P s + 1)) (13 * s + k) = nI (if k = 0 then P s + 1 else Lo s k)
        by_cases e : k = 0
        · subst e
          rw [if_pos rfl]
          exact pk_us
        · rw [if_neg e, pk_un (by omega)]
          exact q5
      · rw [pk_un (by omega)]
        exact ⟨rfl, rfl⟩
end
section
/-! the law's check behind every turn -/
theorem qa_bnd {post : Int32 → Prop} {x : Int32} {a1 a2 a3 a4 a5 a6 : Nat → Int32} {P : Nat → Nat} {K : Nat → Nat → Prop} (hG : qa_G a2 a3 a4 a5 a6 P K) (hx : x = nI (qa_pts P)) (H : post 1) : wpL_bounded post (a1, a2, a3, a4, a5, a6) x := by
  obtain ⟨E, N, Lo, Hi, hA, hK⟩ := hG
  subst hx
  have hB := qa_allB hA
  have hP : ∀ s, s < 4 → P s ≤ 240 := fun s hs => (hA.1 s hs).2.1
  unfold wpL_bounded
  dsimp only
  refine pk_loop (σ := Unit) (fun m i _ => wL_bounded_7 post (nI (qa_pts P)) a1 a2 a3 a4 a5 a6 m (nI (qa_sm (qa_T P E N Hi) i)) (nI (qa_sm P i)) (nI i)) (fun _ _ => True) 4 0 () (by omega) trivial (fun m _ _ => ?_) (fun m i _ hi _ hw => ?_)
  · have b := qa_smB hB hA.2 (i := 4) (by omega)
    exact pk_le 4 4 (fun _ => pk_lt (qa_sm P 4 + 56) (qa_sm (qa_T P E N Hi) 4) (fun z => absurd z (by omega)) (fun _ => H) (nI_add _ 56)) (fun z => absurd z (by omega))
  · have b := qa_smB hB hA.2 (i := i) (by omega)
    have g0 := (qa_gapsL (hA.1 i hi)).1
    have hb := qa_HB (hA.1 i hi)
    have J93 : ∀ z : Int32, wL_bounded_93 post (wL_bounded_7 post (nI (qa_pts P)) a1 a2 a3 a4 a5 a6 m) (nI (qa_pts P)) (nI (qa_sm (qa_T P E N Hi) i)) (nI (qa_sm P i)) (nI i) (nI (P i)) (nI (qa_H (P i) (E i) (N i) (Hi i))) z z a1 a2 a3 a4 a5 a6 :=
      fun z => br_t rfl (nm_r (nI_add _ _) (nm_r (nI_add _ _) (nm_r (nI_1 i) (hw () trivial))))
    refine pk_le 4 i (fun z => absurd z (by omega)) (fun _ => nm_r (qa_ptP hP hi) (qa_highest hi (hA.1 i hi) (qa_readable hi (hA.1 i hi) ?_)))
    refine pk_lt (qa_H (P i) (E i) (N i) (Hi i)) (P i) (fun z => absurd z (by omega)) (fun _ => pk_lt (qa_r (P i) (N i) (Lo i) (Hi i)) 0 (fun z => absurd z (by omega)) (fun _ => pk_lt (qa_H (P i) (E i) (N i) (Hi i)) (P i + qa_r (P i) (N i) (Lo i) (Hi i)) (fun z => absurd z (by omega)) (fun _ => qa_gaps hi (hA.1 i hi) (fun g hg hgi => ?_)) rfl (nI_add _ _)))
    refine pk_eq g 0 (fun z => ?_) (fun z => ?_)
    · exact pk_eq (P i + qa_r (P i) (N i) (Lo i) (Hi i)) (qa_H (P i) (E i) (N i) (Hi i)) (fun _ => J93 1) (fun w => absurd (hgi.mp z) w) (nI_add _ _)
    · exact pk_eq (P i + qa_r (P i) (N i) (Lo i) (Hi i)) (qa_H (P i) (E i) (N i) (Hi i)) (fun w => absurd (hgi.mpr w) z) (fun _ => J93 0) (nI_add _ _)
theorem qa_474 {post : Int32 → Prop} {L : Nat} {xs : Nat → Int32} {J36 : Int32 → Int32 → Int64 → Int64 → Int64 → Int32 → (Nat → Int32) → (Nat → Int32) → (Nat → Int32) → (Nat → Int32) → (Nat → Int32) → (Nat → Int32) → Prop} {x3 x4 x5 : Int32} {x6 x8 x10 : Int64} {x12 : Int32} {kc ks : Nat} {a1 a2 a3 a4 a5 a6 : Nat → Int32} {P : Nat → Nat} {K : Nat → Nat → Prop}
    (hG : qa_G a2 a3 a4 a5 a6 P K) (hx : x4 = nI (qa_pts P)) (H : J36 x4 x5 x6 x8 x10 (x12 + 4) a1 a2 a3 a4 a5 a6) : wL_law_474 post L xs J36 x3 x4 x5 x6 x8 x10 x12 kc ks a1 a2 a3 a4 a5 a6 := by
  unfold wL_law_474
  exact qa_bnd hG hx (br_f (by decide) (nm_e H))
/-! the law's mask and longs: S says which bytes are marked, R what they hold -/
def qa_M (S : Nat → Prop) (R : Nat → Int32) (x5 : Int32) (x6 x8 x10 : Int64) : Prop :=
  (∀ i, i < 24 → (qa_b x5 i = true ↔ S i)) ∧ (∀ i, 24 ≤ i → i < 32 → qa_b x5 i = false) ∧ (∀ i, i < 24 → S i → ∀ c, c < 8 → qa_w x6 x8 x10 (8 * i + c) = qa_b (R i) c)
theorem qa_Mc {S S' : Nat → Prop} {R R' : Nat → Int32} {x5 : Int32} {x6 x8 x10 : Int64} (h : qa_M S R x5 x6 x8 x10) (hS : ∀ i, i < 24 → (S' i ↔ S i)) (hR : ∀ i, i < 24 → S i → R' i = R i) : qa_M S' R' x5 x6 x8 x10 :=
  ⟨fun i hi => (h.1 i hi).trans (hS i hi).symm, h.2.1, fun i hi hs c hc => by rw [hR i hi ((hS i hi).mp hs)]; exact h.2.2 i hi ((hS i hi).mp hs) c hc⟩
theorem qa_Mset {S S' : Nat → Prop} {R : Nat → Int32} {x5 : Int32} {x6 x8 x10 y6 y8 y10 : Int64} {k t : Nat} (h : qa_M S R x5 x6 x8 x10) (hk : k < 24) (hR : R k = nI t) (hS : ∀ i, i < 24 → (S' i ↔ (S i ∨ i = k)))
    (hy : ∀ i, i < 192 → qa_w y6 y8 y10 i = if 8 * k ≤ i ∧ i < 8 * k + 8 then qa_b (nI t) (i - 8 * k) else qa_w x6 x8 x10 i) : qa_M S' R (x5 ||| ((1 : Int32) <<< (nI k &&& 31))) y6 y8 y10 := by
  refine ⟨fun i hi => ?_, fun i h1 h2 => ?_, fun i hi hs c hc => ?_⟩
  · rw [qa_set x5 (by omega) (by omega), hS i hi, ← h.1 i hi, Bool.or_eq_true, decide_eq_true_iff]
  · rw [qa_set x5 (by omega) h2, h.2.1 i h1 h2, decide_eq_false (by omega)]
    rfl
  · rw [hy (8 * i + c) (by omega)]
    by_cases e : i = k
    · subst e
      rw [if_pos (by omega), hR, show 8 * i + c - 8 * i = c by omega]
    · rw [if_neg (by omega)]
      rcases (hS i hi).mp hs with z | z
      · exact h.2.2 i hi z c hc
      · exact absurd z e
/-- one byte is put into the longs -/
theorem qa_put3 {post : Int32 → Prop} {L : Nat} {xs : Nat → Int32} {J36 : Int32 → Int32 → Int64 → Int64 → Int64 → Int32 → (Nat → Int32) → (Nat → Int32) → (Nat → Int32) → (Nat → Int32) → (Nat → Int32) → (Nat → Int32) → Prop} {J151 : Int32 → Int64 → Int64 → Int64 → Int32 → Prop} {x3 x4 x5 : Int32} {x6 x8 x10 : Int64} {x12 x14 x15 x16 x17 x18 x19 : Int32} {kc ks : Nat} {a1 a2 a3 a4 a5 a6 : Nat → Int32} {j k t : Nat} (hk : k < 24) (ht : t < 256)
    (H : ∀ y6 y8 y10 : Int64, (∀ i, i < 192 → qa_w y6 y8 y10 i = if 8 * k ≤ i ∧ i < 8 * k + 8 then qa_b (nI t) (i - 8 * k) else qa_w x6 x8 x10 i) → J151 x5 y6 y8 y10 (nI (j + 1))) :
    (8 ≤ nI k → wL_law_251 post L xs J36 J151 x3 x4 x5 x8 x10 x12 x14 x15 x16 x17 x18 x19 (nI j) (nI k) (nI t) x6 kc ks a1 a2 a3 a4 a5 a6) ∧
    (¬ 8 ≤ nI k → wpL_put (fun r => wL_law_251 post L xs J36 J151 x3 x4 x5 x8 x10 x12 x14 x15 x16 x17 x18 x19 (nI j) (nI k) (nI t) r kc ks a1 a2 a3 a4 a5 a6) () x6 (nI k) (nI t)) := by
  have e7 : nI k &&& 7 = nI (k % 8) := pk_andN (by omega) 3 (by decide)
  unfold wL_law_251 wL_law_282 wL_law_284 wpL_put
  rw [e7]
  refine pk_le 8 k (fun z => ?_) (fun z => ?_)
  · refine pk_lt k 8 (fun w => absurd w (by omega)) (fun _ => pk_le 16 k (fun z2 => ?_) (fun z2 => ?_))
    · exact pk_lt k 16 (fun w => absurd w (by omega)) (fun _ => nm_r (nI_1 j) (H _ _ _ (fun i hi => qa_wput2 z2 hk ht hi)))
    · exact pk_lt k 16 (fun _ => nm_r (nI_1 j) (H _ _ _ (fun i hi => qa_wput1 z z2 ht hi))) (fun w => absurd w (by omega))
  · exact pk_lt k 8 (fun _ => pk_lt k 16 (fun _ => nm_r (nI_1 j) (H _ _ _ (fun i hi => qa_wput0 z ht hi))) (fun w => absurd w (by omega))) (fun w => absurd w (by omega))
/-- the law's loop over a piece's bytes where nothing is marked -/
theorem qa_skip {post : Int32 → Prop} {L : Nat} {xs : Nat → Int32} {J36 : Int32 → Int32 → Int64 → Int64 → Int64 → Int32 → (Nat → Int32) → (Nat → Int32) → (Nat → Int32) → (Nat → Int32) → (Nat → Int32) → (Nat → Int32) → Prop} {x3 x4 x5 : Int32} {x6 x8 x10 : Int64} {x12 x14 x15 x16 x17 x18 x19 : Int32} {kc ks : Nat} {a1 a2 a3 a4 a5 a6 : Nat → Int32} (hc : x19 < 0 ∨ ¬ x14 = x3)
    (H : wL_law_474 post L xs J36 x3 x4 x5 x6 x8 x10 x12 kc ks a1 a2 a3 a4 a5 a6) : ∃ fu : Nat, wL_law_151 post L xs J36 x3 x4 x12 x14 x15 x16 x17 x18 x19 kc ks a1 a2 a3 a4 a5 a6 fu x5 x6 x8 x10 0 := by
  refine pk_loop (σ := Unit) (fun m i _ => wL_law_151 post L xs J36 x3 x4 x12 x14 x15 x16 x17 x18 x19 kc ks a1 a2 a3 a4 a5 a6 m x5 x6 x8 x10 (nI i)) (fun _ _ => True) 4 0 () (by omega) trivial (fun m _ _ => ?_) (fun m i _ hi _ hw => ?_)
  · exact pk_le 4 4 (fun _ => H) (fun z => absurd z (by omega))
  · refine pk_le 4 i (fun z => absurd z (by omega)) (fun _ => nm_e ?_)
    by_cases h9 : x19 < 0
    · exact br_t h9 (nm_r (nI_1 i) (hw () trivial))
    · rcases hc with z | z
      · exact absurd z h9
      · exact br_f h9 (br_f z (nm_r (nI_1 i) (hw () trivial)))
/-- the law's loop over the bytes of a piece of the watched stream -/
theorem qa_151 {post : Int32 → Prop} {L : Nat} {xs : Nat → Int32} {J36 : Int32 → Int32 → Int64 → Int64 → Int64 → Int32 → (Nat → Int32) → (Nat → Int32) → (Nat → Int32) → (Nat → Int32) → (Nat → Int32) → (Nat → Int32) → Prop} {x3 x4 x5 : Int32} {x6 x8 x10 : Int64} {x12 b : Int32} {kc ks : Nat} {a1 a2 a3 a4 a5 a6 : Nat → Int32} {p off len c : Nat} {S : Nat → Prop} {R : Nat → Int32}
    (hp : p ≤ 240) (ho : off ≤ 1000) (hl1 : 1 ≤ len) (hl4 : len ≤ 4) (hc : c < 2 ^ 31) (h24 : off + len ≤ p + 24) (hM : qa_M S R x5 x6 x8 x10) (hR : ∀ i, i < 24 → ¬ S i → off ≤ p + i → p + i < off + len → R i = qa_by b (p + i - off))
    (H : ∀ (y5 : Int32) (y6 y8 y10 : Int64), qa_M (fun i => S i ∨ (off ≤ p + i ∧ p + i < off + len)) R y5 y6 y8 y10 → wL_law_474 post L xs J36 x3 x4 y5 y6 y8 y10 x12 kc ks a1 a2 a3 a4 a5 a6) :
    ∃ fu : Nat, wL_law_151 post L xs J36 x3 x4 x12 x3 (nI p) b (nI off) (nI len) (nI c) kc ks a1 a2 a3 a4 a5 a6 fu x5 x6 x8 x10 0 := by
  refine pk_loop (σ := Int32 × Int64 × Int64 × Int64) (fun m j st => wL_law_151 post L xs J36 x3 x4 x12 x3 (nI p) b (nI off) (nI len) (nI c) kc ks a1 a2 a3 a4 a5 a6 m st.1 st.2.1 st.2.2.1 st.2.2.2 (nI j)) (fun j st => qa_M (fun i => S i ∨ (off ≤ p + i ∧ p + i < off + min j len)) R st.1 st.2.1 st.2.2.1 st.2.2.2) 4 0 (x5, x6, x8, x10) (by omega) ?_ (fun m st hI => ?_) (fun m j st hj hI hw => ?_)
  · refine qa_Mc hM (fun i hi => ⟨fun z => ?_, fun z => Or.inl z⟩) (fun _ _ _ => rfl)
    rcases z with z | z
    · exact z
    · omega
  · have h5 := H st.1 st.2.1 st.2.2.1 st.2.2.2 (qa_Mc hI (fun i hi => by rw [show min 4 len = len by omega]) (fun _ _ _ => rfl))
    exact pk_le 4 4 (fun _ => h5) (fun z => absurd z (by omega))
  · have skip : (∀ i, i < 24 → p + i = off + j → j < len → S i ∨ (off ≤ p + i ∧ p + i < off + min j len)) → qa_M (fun i => S i ∨ (off ≤ p + i ∧ p + i < off + min (j + 1) len)) R st.1 st.2.1 st.2.2.1 st.2.2.2 := by
      intro hz
      refine qa_Mc hI (fun i hi => ⟨fun z => ?_, fun z => ?_⟩) (fun _ _ _ => rfl)
      · rcases z with z | z
        · exact Or.inl z
        · by_cases e : p + i = off + j ∧ j < len
          · exact hz i hi e.1 e.2
          · exact Or.inr (by omega)
      · rcases z with z | z
        · exact Or.inl z
        · exact Or.inr (by omega)
    refine pk_le 4 j (fun z => absurd z (by omega)) (fun _ => ?_)
    rcases Nat.lt_or_ge (off + j) p with g | g
    · refine nm_e (br_f (nI_pos hc) (br_t rfl (pk_le len j (fun z => nm_r (nI_1 j) (hw st (skip (fun i h1 h2 h3 => absurd h3 (by omega))))) (fun z => br_t ?_ (nm_r (nI_1 j) (hw st (skip (fun i h1 h2 h3 => absurd h2 (by omega)))))))))
      rw [nI_add]
      exact pk_sneg (by omega) g
    · refine nm_r (e' := nI (off + j - p)) (by rw [nI_add, pk_sub g]) (br_f (nI_pos hc) (br_t rfl (pk_le len j (fun z => nm_r (nI_1 j) (hw st (skip (fun i h1 h2 h3 => absurd h3 (by omega))))) (fun z => pk_lt (off + j - p) 0 (fun y => absurd y (by omega)) (fun _ => pk_le 24 (off + j - p) (fun y => absurd y (by omega)) (fun y => ?_))))))
      have hi24 : off + j - p < 24 := y
      refine ek_if (qa_tst st.1 (show off + j - p < 32 by omega)) (fun hb => ?_) (fun hb => nm_r (nI_1 j) (hw st (skip (fun i h1 h2 h3 => ?_))))
      · obtain ⟨t, ht, et⟩ := qa_byE b j
        refine nm_e (nm_r et (qa_put3 hi24 ht (fun y6 y8 y10 hy => hw (_, y6, y8, y10) (qa_Mset (k := off + j - p) hI hi24 ?_ ?_ hy))))
        · have hn : ¬ (S (off + j - p) ∨ (off ≤ p + (off + j - p) ∧ p + (off + j - p) < off + min j len)) := fun z2 => by
            have := (hI.1 _ hi24).mpr z2
            rw [hb] at this
            exact absurd this (by decide)
          rw [hR (off + j - p) hi24 (fun z2 => hn (Or.inl z2)) (by omega) (by omega), show p + (off + j - p) - off = j by omega]
          exact et
        · intro i hi
          constructor
          · intro z2
            rcases z2 with z2 | z2
            · exact Or.inl (Or.inl z2)
            · by_cases e : i = off + j - p
              · exact Or.inr e
              · exact Or.inl (Or.inr (by omega))
          · intro z2
            rcases z2 with (z2 | z2) | z2
            · exact Or.inl z2
            · exact Or.inr (by omega)
            · exact Or.inr (by omega)
      · have hb' : qa_b st.1 i = true := by
          rw [show i = off + j - p by omega]
          cases hq : qa_b st.1 (off + j - p)
          · exact absurd hq hb
          · rfl
        exact (hI.1 i h1).mp hb'
end
section
/-! the law's invariant, one turn, the loop -/
def qa_L (w : Nat) (x4 x5 : Int32) (x6 x8 x10 : Int64) (a1 a2 a3 a4 a5 a6 : Nat → Int32) : Prop :=
  ∃ (P : Nat → Nat) (K : Nat → Nat → Prop), qa_G a2 a3 a4 a5 a6 P K ∧ (∀ j, j < 128 → ∃ t : Nat, t < 256 ∧ a1 j = nI t) ∧ x4 = nI (qa_pts P) ∧ qa_M (fun i => K w (P w + i)) (fun i => a1 (32 * w + (P w + i) % 32)) x5 x6 x8 x10
/-- a read byte of the watched stream: the mask and the longs move on -/
theorem qa_Msh {w : Nat} {P : Nat → Nat} {K : Nat → Nat → Prop} {a1 : Nat → Int32} {x5 : Int32} {x6 x8 x10 : Int64} (hb : ∀ x, K w x → P w ≤ x ∧ x < P w + 24 ∧ x < 240) (h : qa_M (fun i => K w (P w + i)) (fun i => a1 (32 * w + (P w + i) % 32)) x5 x6 x8 x10) :
    qa_M (fun i => qa_fu K w (fun x => K w x ∧ P w < x) w (qa_fu P w (P w + 1) w + i)) (fun i => a1 (32 * w + (qa_fu P w (P w + 1) w + i) % 32)) (x5 >>> ((1 : Int32) &&& 31))
      (((x6.toUInt64 >>> ((8 : Int32).toInt64.toUInt64 &&& Int64.toUInt64 63)).toInt64) ||| (x8 <<< ((56 : Int32).toInt64 &&& 63)))
      (((x8.toUInt64 >>> ((8 : Int32).toInt64.toUInt64 &&& Int64.toUInt64 63)).toInt64) ||| (x10 <<< ((56 : Int32).toInt64 &&& 63)))
      ((x10.toUInt64 >>> ((8 : Int32).toInt64.toUInt64 &&& Int64.toUInt64 63)).toInt64) := by
  rw [qa_fus, qa_fus]
  refine ⟨fun i hi => ?_, fun i h1 h2 => ?_, fun i hi hs c hc => ?_⟩
  · rw [qa_hlf x5 (by omega)]
    show _ ↔ (K w (P w + 1 + i) ∧ P w < P w + 1 + i)
    rw [show P w + 1 + i = P w + (i + 1) by omega]
    rcases Nat.lt_or_ge (i + 1) 24 with z | z
    · rw [h.1 (i + 1) z]
      exact ⟨fun y => ⟨y, by omega⟩, fun y => y.1⟩
    · rw [h.2.1 (i + 1) z (by omega)]
      refine ⟨fun y => absurd y (by decide), fun y => ?_⟩
      have := hb _ y.1
      omega
  · rcases Nat.lt_or_ge i 31 with z | z
    · rw [qa_hlf x5 z]
      exact h.2.1 (i + 1) (by omega) (by omega)
    · rw [show i = 31 by omega, qa_hlf31]
      exact h.2.1 31 (by omega) (by omega)
  · have hs' : K w (P w + 1 + i) ∧ P w < P w + 1 + i := hs
    rw [show P w + 1 + i = P w + (i + 1) by omega] at hs'
    have hbb := hb _ hs'.1
    rw [qa_wsh x6 x8 x10 (by omega), show 8 * i + c + 8 = 8 * (i + 1) + c by omega]
    show _ = qa_b (a1 (32 * w + (P w + 1 + i) % 32)) c
    rw [show P w + 1 + i = P w + (i + 1) by omega]
    exact h.2.2 (i + 1) (by omega) hs'.1 c hc
theorem qa_get0 {S : Nat → Prop} {R : Nat → Int32} {x5 : Int32} {x6 x8 x10 : Int64} {t : Nat} (h : qa_M S R x5 x6 x8 x10) (h0 : S 0) (ht : t < 256) (hR : R 0 = nI t) : nI t = ((x6 >>> ((8 * (0 : Int32)).toInt64 &&& 63)).toInt32) &&& 255 := by
  apply qa_bext
  intro i hi
  rw [qa_dget x6 hi]
  by_cases c : i < 8
  · rw [decide_eq_true c, Bool.true_and]
    have g := h.2.2 0 (by omega) h0 i c
    rw [hR] at g
    rw [← g, show 8 * 0 + i = i by omega]
    unfold qa_w
    rw [if_pos (by omega)]
  · rw [decide_eq_false c, Bool.false_and, qa_bnI t hi]
    exact Nat.testBit_lt_two_pow (Nat.lt_of_lt_of_le ht (Nat.pow_le_pow_right (n := 2) (by decide) (show 8 ≤ i by omega)))
theorem qa_73 {post : Int32 → Prop} {L : Nat} {xs : Nat → Int32} {J36 : Int32 → Int32 → Int64 → Int64 → Int64 → Int32 → (Nat → Int32) → (Nat → Int32) → (Nat → Int32) → (Nat → Int32) → (Nat → Int32) → (Nat → Int32) → Prop} {w s i : Nat} {x4 x5 : Int32} {x6 x8 x10 : Int64} {x13 : Int32} {kc ks : Nat} {a1 a2 a3 a4 a5 a6 : Nat → Int32}
    (hL : L ≤ 260) (hi : i + 4 ≤ L) (hw : w < 4) (hs : s < 4) (hI : qa_L w x4 x5 x6 x8 x10 a1 a2 a3 a4 a5 a6)
    (HJ : ∀ (y4 y5 : Int32) (y6 y8 y10 : Int64) (b1 b2 b3 b4 b5 b6 : Nat → Int32), qa_L w y4 y5 y6 y8 y10 b1 b2 b3 b4 b5 b6 → J36 y4 y5 y6 y8 y10 (nI i + 4) b1 b2 b3 b4 b5 b6) :
    wL_law_73 post L xs J36 (nI w) x4 x5 x6 x8 x10 (nI i) x13 (nI s) kc ks a1 a2 a3 a4 a5 a6 := by
  obtain ⟨P, K, hG, hb, e4, hM⟩ := hI
  subst e4
  have hP : ∀ s, s < 4 → P s ≤ 240 := fun s hs => (qa_GB hG hs).1
  have hPs := hP s hs
  have hPw := hP w hw
  unfold wL_law_73
  refine nm_r (qa_ptP hP hs) ⟨pk_in (i + 3) L (by omega) (nI_add i 3), nm_e ?_⟩
  generalize xs (nI i + 3).toNatClampNeg = b
  refine br_c (fun _ => br_c (fun _ => ?_) (fun _ => ?_)) (fun _ => ?_)
  · -- finish
    obtain ⟨d, hd, ed⟩ := pk_andE b (m := 31) 5 (by decide)
    rw [ed, nI_add]
    exact qa_finish hG hs (by omega) (fun r b3 hG' => qa_474 hG' rfl (HJ _ _ _ _ _ _ _ _ _ _ _ ⟨P, K, hG', hb, rfl, hM⟩))
  · -- read
    have hG0 := hG
    obtain ⟨E, N, Lo, Hi, hA, hK⟩ := hG0
    have hR := (hA.1 s hs).2.2.2.2
    have hkP := qa_knP hR
    refine qa_readable hs (hA.1 s hs) (qa_read hG hs (fun hk b2 b4 b5 b6 hG' => ?_) (fun hk r hr => ?_))
    · have hk1 := hkP.mp ((hK s _ hs).mp hk)
      have hlo := hR.1 0 hk1.1
      have er : qa_r (P s) (N s) (Lo s) (Hi s) = Hi s 0 - P s := if_pos hk1
      obtain ⟨t, ht, et⟩ := hb (32 * s + P s % 32) (by omega)
      rw [er, et]
      have hnn : ¬ nI t < 0 := nI_pos (by omega)
      refine br_f hnn (pk_le (Hi s 0 - P s) 0 (fun z => absurd z (by omega)) (fun _ => br_t rfl (br_f hnn (nm_r (qa_ptU P hs) (br_f hnn ?_)))))
      by_cases e : s = w
      · subst e
        refine br_t rfl (br_f ?_ (br_t ?_ (nm_e (nm_e (nm_e (nm_e (qa_474 hG' rfl (HJ _ _ _ _ _ _ _ _ _ _ _ ⟨_, _, hG', hb, rfl, qa_Msh (qa_GB hG hs).2 hM⟩))))))))
        · rw [qa_and1]
          have h0 := (hM.1 0 (by omega)).mpr hk
          rw [h0]
          decide
        · exact qa_get0 hM hk ht et
      · refine br_f (fun z => e ((nI_eq (by omega) (by omega)).mp z)) (qa_474 hG' rfl (HJ _ _ _ _ _ _ _ _ _ _ _ ⟨_, _, hG', hb, rfl, ?_⟩))
        rw [qa_fun (fun z => e z.symm), qa_fun (fun z => e z.symm)]
        exact hM
    · have er : qa_r (P s) (N s) (Lo s) (Hi s) = 0 := if_neg (fun z => hk ((hK s _ hs).mpr (hkP.mpr z)))
      rw [er]
      refine br_t hr (pk_le 0 0 (fun _ => br_t rfl (br_t hr (br_t hr (qa_474 hG rfl (HJ _ _ _ _ _ _ _ _ _ _ _ ⟨P, K, hG, hb, rfl, hM⟩))))) (fun z => absurd z (by omega)))
  · -- piece
    obtain ⟨d, hd, ed⟩ := pk_andE (xs (nI i + 2).toNatClampNeg) (m := 31) 5 (by decide)
    obtain ⟨q, hq, eq⟩ := pk_andE (xs (nI i + 1).toNatClampNeg >>> ((2 : Int32) &&& 31)) (m := 3) 2 (by decide)
    rw [ed, eq]
    have same : wL_law_474 post L xs J36 (nI w) (nI (qa_pts P)) x5 x6 x8 x10 (nI i) kc ks a1 a2 a3 a4 a5 a6 := qa_474 hG rfl (HJ _ _ _ _ _ _ _ _ _ _ _ ⟨P, K, hG, hb, rfl, hM⟩)
    have el : (1 : Int32) + nI q = nI (1 + q) := nI_add 1 q
    rcases Nat.lt_or_ge (P s + d) 4 with g | g
    · refine ⟨pk_in (i + 2) L (by omega) (nI_add i 2), nm_e ⟨pk_in (i + 1) L (by omega) (nI_add i 1), nm_r el (qa_pieceN hs (by omega) (by omega) ?_ (qa_skip (Or.inl (by decide)) same))⟩⟩
      rw [nI_add]
      exact pk_sneg (b := 4) (by omega) g
    · refine ⟨pk_in (i + 2) L (by omega) (nI_add i 2), nm_r (e' := nI (P s + d - 4)) (by rw [nI_add]; exact pk_sub g) ⟨pk_in (i + 1) L (by omega) (nI_add i 1), nm_r el ?_⟩⟩
      refine qa_piece hG hs (by omega) (by omega) (by omega) hb (fun r hr => qa_skip (Or.inl hr) same) (fun c c1 b4 b5 b6 K' hc h24 hG' hK1 hK2 hring => ?_)
      by_cases e : s = w
      · subst e
        refine qa_151 (S := fun i => K s (P s + i)) (R := fun i => c1 (32 * s + (P s + i) % 32)) hPs (by omega) (by omega) (by omega) hc h24 (qa_Mc hM (fun _ _ => Iff.rfl) (fun j hj hk => ?_)) (fun j hj hk h1 h2 => ?_) (fun y5 y6 y8 y10 hM' => qa_474 hG' rfl (HJ _ _ _ _ _ _ _ _ _ _ _ ⟨P, K', hG', hring.2.2, rfl, qa_Mc hM' (fun j hj => ?_) (fun _ _ _ => rfl)⟩))
        · exact (hring.1 (P s + j) (by omega) (by omega)).2 (fun z => z.2.2 hk)
        · exact (hring.1 (P s + j) (by omega) (by omega)).1 ⟨h1, h2, hk⟩
        · show K' s (P s + j) ↔ _
          rw [hK1]
          constructor
          · rintro (z | z)
            · exact Or.inl z
            · exact Or.inr z.2
          · rintro (z | z)
            · exact Or.inl z
            · exact Or.inr ⟨by omega, z⟩
      · refine qa_skip (Or.inr (fun z => e ((nI_eq (by omega) (by omega)).mp z))) (qa_474 hG' rfl (HJ _ _ _ _ _ _ _ _ _ _ _ ⟨P, K', hG', hring.2.2, rfl, qa_Mc hM (fun j hj => hK2 w _ (fun z => e z.symm) hw) (fun j hj hk => ?_)⟩))
        exact hring.2.1 _ (by omega)
theorem qa_init {a3 : Nat → Int32} (w : Nat) (h : ∀ j, j < 4 → a3 j = -1) : qa_L w 0 0 0 0 0 (fun _ => 0) (fun _ => 0) a3 (fun _ => 0) (fun _ => 0) (fun _ => 0) := by
  refine ⟨fun _ => 0, fun _ _ => False, ⟨fun _ => 0, fun _ => 0, fun _ _ => 0, fun _ _ => 0, ⟨fun s hs => ?_, ?_⟩, fun s x hs => ?_⟩, fun j hj => ⟨0, by omega, rfl⟩, rfl, ?_⟩
  · exact ⟨rfl, Nat.zero_le _, Or.inl ⟨rfl, h s hs⟩, ⟨rfl, Nat.zero_le _, fun k hk => absurd hk (Nat.not_lt_zero _)⟩, ⟨fun k hk => absurd hk (Nat.not_lt_zero _), fun k hk => absurd hk (Nat.not_lt_zero _)⟩⟩
  · decide
  · exact ⟨fun z => z.elim, fun ⟨k, hk, _⟩ => absurd hk (by omega)⟩
  · exact ⟨fun i hi => by rw [qa_b0]; exact ⟨fun z => absurd z (by decide), fun z => z.elim⟩, fun i _ _ => qa_b0 i, fun i hi z => z.elim⟩
theorem i_vc (xs : Nat → Int32) (L : Nat) (hL : L ≤ 260) : wpL_law (fun r => r = 1) L xs := by
  have F : ∀ (r : Int32) (a3 : Nat → Int32), (∀ j, j < 4 → a3 j = -1) → ∀ x3 : Int32, x3 = r &&& 3 → ∃ fu : Nat, wL_law_36 (fun r => r = 1) L xs x3 (1 + 6) (6 + 244) fu 0 0 0 0 0 1 (fun _ => 0) (fun _ => 0) a3 (fun _ => 0) (fun _ => 0) (fun _ => 0) := by
    intro r a3 h3
    obtain ⟨w, hw, ew⟩ := pk_andE r (m := 3) 2 (by decide)
    refine nm_r ew ?_
    refine lp12 (wL_law_36 (fun r => r = 1) L xs (nI w) (1 + 6) (6 + 244)) (fun x4 x5 x6 x8 x10 x12 b1 b2 b3 b4 b5 b6 => qa_L w x4 x5 x6 x8 x10 b1 b2 b3 b4 b5 b6 ∧ ∃ i : Nat, i ≤ 260 ∧ x12 = nI i) (fun _ _ _ _ _ x12 _ _ _ _ _ _ => 300 - x12.toNatClampNeg) ?_ 0 0 0 0 0 1 _ _ _ _ _ _ ⟨qa_init w h3, 1, by omega, rfl⟩
    intro n x4 x5 x6 x8 x10 x12 b1 b2 b3 b4 b5 b6 hI hk
    obtain ⟨hI, i, hi, e12⟩ := hI
    subst e12
    have HJ : i + 4 ≤ L → ∀ (y4 y5 : Int32) (y6 y8 y10 : Int64) (c1 c2 c3 c4 c5 c6 : Nat → Int32), qa_L w y4 y5 y6 y8 y10 c1 c2 c3 c4 c5 c6 → wL_law_36 (fun r => r = 1) L xs (nI w) (1 + 6) (6 + 244) n y4 y5 y6 y8 y10 (nI i + 4) c1 c2 c3 c4 c5 c6 := by
      intro hiL y4 y5 y6 y8 y10 c1 c2 c3 c4 c5 c6 hI'
      have e : nI i + 4 = nI (i + 4) := nI_add i 4
      refine hk y4 y5 y6 y8 y10 (nI i + 4) c1 c2 c3 c4 c5 c6 ⟨hI', i + 4, by omega, e⟩ ?_
      rw [e, nI_clamp (by omega), nI_clamp (by omega)]
      omega
    refine pk_lt L (i + 4) (fun _ => rfl) (fun z => ⟨pk_in i L (by omega), nm_e (br_c (fun _ => qa_73 hL z hw hw hI (HJ z)) (fun _ => ⟨pk_in (i + 1) L (by omega) (nI_1 i), ?_⟩))⟩) rfl (nI_add i 4)
    obtain ⟨s, hs, es⟩ := pk_andE (xs (nI i + 1).toNatClampNeg) (m := 3) 2 (by decide)
    rw [es]
    exact qa_73 hL z hw hs hI (HJ z)
  refine ⟨6, 244, by omega, by omega, by omega, by omega, by omega, by omega, by omega, by omega, by omega, by omega, by omega, by omega, by omega, by omega, ?_⟩
  refine pk_loop (σ := Nat → Int32) (fun m i st => wX_init_52 _ 6 244 6 244 m (nI i) (fun _ => 0) (fun _ => 0) st (fun _ => 0) (fun _ => 0) (fun _ => 0)) (fun i st => ∀ j, j < i → st j = -1) 4 0 (fun _ => 0) (by omega) (fun j hj => absurd hj (by omega)) (fun m st hI => ?_) (fun m i st hi hI hw => ?_)
  · refine pk_le 4 4 (fun _ => ?_) (fun z => absurd z (by omega))
    exact pk_le L 0 (fun _ => F 0 st hI) (fun z => ⟨pk_in 0 L z, F _ st hI⟩)
  · refine pk_le 4 i (fun z => absurd z (by omega)) (fun _ => ⟨pk_in i 4 hi, nm_e (nm_r (nI_1 i) (hw _ (fun j hj => ?_)))⟩)
    rw [nI_clamp (by omega)]
    by_cases e : j = i
    · rw [e, pk_us]
    · rw [pk_un e]
      exact hI j (by omega)
end
